section
-- ===== PART A: goes FIRST, ahead of the names: the tables' words, and 'selects' of the private methods out of them =====
/-- a private method of a class that the tables say can be made, by its rows of tables_1 -/
def lw_okq (q : MethodName × Nat) : Prop := (q.1.cls ≠ "java/lang/invoke/MethodHandle" ∧ q.1.cls ≠ "java/lang/invoke/VarHandle") ∧ Cond.instantiable q.1.cls q.2 ∈ tables_1 ∧ Cond.privateMethod q.1 ∈ tables_1 ∧ Cond.instanceMethod q.1 ∈ tables_1
set_option maxRecDepth 100000
theorem lw_p0 : lw_okq (⟨"GlobalMinCut", "badPair", "(II)Z"⟩, 14) := ⟨⟨by decide +kernel, by decide +kernel⟩, List.mem_of_getElem? (i := 4) rfl, List.mem_of_getElem? (i := 61) rfl, List.mem_of_getElem? (i := 62) rfl⟩
theorem lw_p1 : lw_okq (⟨"GlobalMinCut", "startLabels", "(I)V"⟩, 14) := ⟨⟨by decide +kernel, by decide +kernel⟩, List.mem_of_getElem? (i := 4) rfl, List.mem_of_getElem? (i := 77) rfl, List.mem_of_getElem? (i := 78) rfl⟩
theorem lw_p2 : lw_okq (⟨"GlobalMinCut", "mergeLabels", "(II)V"⟩, 14) := ⟨⟨by decide +kernel, by decide +kernel⟩, List.mem_of_getElem? (i := 4) rfl, List.mem_of_getElem? (i := 81) rfl, List.mem_of_getElem? (i := 82) rfl⟩
theorem lw_p3 : lw_okq (⟨"GlobalMinCut", "sumWeights", "(I)V"⟩, 14) := ⟨⟨by decide +kernel, by decide +kernel⟩, List.mem_of_getElem? (i := 4) rfl, List.mem_of_getElem? (i := 85) rfl, List.mem_of_getElem? (i := 86) rfl⟩
theorem lw_p4 : lw_okq (⟨"GlobalMinCut", "leastOfGroups", "()I"⟩, 14) := ⟨⟨by decide +kernel, by decide +kernel⟩, List.mem_of_getElem? (i := 4) rfl, List.mem_of_getElem? (i := 89) rfl, List.mem_of_getElem? (i := 90) rfl⟩
theorem lw_p5 : lw_okq (⟨"GlobalMinCut", "phase", "(I)I"⟩, 14) := ⟨⟨by decide +kernel, by decide +kernel⟩, List.mem_of_getElem? (i := 4) rfl, List.mem_of_getElem? (i := 94) rfl, List.mem_of_getElem? (i := 95) rfl⟩
theorem lw_p6 : lw_okq (⟨"GlobalMinCut", "mostHanging", "()I"⟩, 14) := ⟨⟨by decide +kernel, by decide +kernel⟩, List.mem_of_getElem? (i := 4) rfl, List.mem_of_getElem? (i := 98) rfl, List.mem_of_getElem? (i := 99) rfl⟩
theorem lw_p7 : lw_okq (⟨"GlobalMinCut", "mergeLastTwo", "()V"⟩, 14) := ⟨⟨by decide +kernel, by decide +kernel⟩, List.mem_of_getElem? (i := 4) rfl, List.mem_of_getElem? (i := 102) rfl, List.mem_of_getElem? (i := 103) rfl⟩
theorem lw_p8 : lw_okq (⟨"GlobalMinCut", "leastWith", "(II)I"⟩, 14) := ⟨⟨by decide +kernel, by decide +kernel⟩, List.mem_of_getElem? (i := 4) rfl, List.mem_of_getElem? (i := 111) rfl, List.mem_of_getElem? (i := 112) rfl⟩
theorem lw_p9 : lw_okq (⟨"GlobalMinCut", "mergeSet", "(I)V"⟩, 14) := ⟨⟨by decide +kernel, by decide +kernel⟩, List.mem_of_getElem? (i := 4) rfl, List.mem_of_getElem? (i := 115) rfl, List.mem_of_getElem? (i := 116) rfl⟩
theorem lw_p10 : lw_okq (⟨"GlobalMinCut", "leastBetween", "(II)I"⟩, 14) := ⟨⟨by decide +kernel, by decide +kernel⟩, List.mem_of_getElem? (i := 4) rfl, List.mem_of_getElem? (i := 119) rfl, List.mem_of_getElem? (i := 120) rfl⟩
theorem lw_p11 : lw_okq (⟨"GlobalMinCut", "findWay", "(II)Z"⟩, 14) := ⟨⟨by decide +kernel, by decide +kernel⟩, List.mem_of_getElem? (i := 4) rfl, List.mem_of_getElem? (i := 123) rfl, List.mem_of_getElem? (i := 124) rfl⟩
theorem lw_p12 : lw_okq (⟨"GlobalMinCut", "sendAlong", "(II)I"⟩, 14) := ⟨⟨by decide +kernel, by decide +kernel⟩, List.mem_of_getElem? (i := 4) rfl, List.mem_of_getElem? (i := 127) rfl, List.mem_of_getElem? (i := 128) rfl⟩
theorem lw_p13 : lw_okq (⟨"GlobalMinCutModel", "badPair", "(II)Z"⟩, 3) := ⟨⟨by decide +kernel, by decide +kernel⟩, List.mem_of_getElem? (i := 150) rfl, List.mem_of_getElem? (i := 170) rfl, List.mem_of_getElem? (i := 171) rfl⟩
theorem lw_p14 : lw_okq (⟨"GlobalMinCutModel", "leastOf", "(III)I"⟩, 3) := ⟨⟨by decide +kernel, by decide +kernel⟩, List.mem_of_getElem? (i := 150) rfl, List.mem_of_getElem? (i := 187) rfl, List.mem_of_getElem? (i := 188) rfl⟩
theorem lw_p15 : lw_okq (⟨"GlobalMinCutModel", "separates", "(III)Z"⟩, 3) := ⟨⟨by decide +kernel, by decide +kernel⟩, List.mem_of_getElem? (i := 150) rfl, List.mem_of_getElem? (i := 191) rfl, List.mem_of_getElem? (i := 192) rfl⟩
def lw_privs_1 : List (MethodName × Nat) := [(⟨"GlobalMinCut", "badPair", "(II)Z"⟩, 14), (⟨"GlobalMinCut", "startLabels", "(I)V"⟩, 14), (⟨"GlobalMinCut", "mergeLabels", "(II)V"⟩, 14), (⟨"GlobalMinCut", "sumWeights", "(I)V"⟩, 14), (⟨"GlobalMinCut", "leastOfGroups", "()I"⟩, 14), (⟨"GlobalMinCut", "phase", "(I)I"⟩, 14), (⟨"GlobalMinCut", "mostHanging", "()I"⟩, 14), (⟨"GlobalMinCut", "mergeLastTwo", "()V"⟩, 14), (⟨"GlobalMinCut", "leastWith", "(II)I"⟩, 14), (⟨"GlobalMinCut", "mergeSet", "(I)V"⟩, 14), (⟨"GlobalMinCut", "leastBetween", "(II)I"⟩, 14), (⟨"GlobalMinCut", "findWay", "(II)Z"⟩, 14), (⟨"GlobalMinCut", "sendAlong", "(II)I"⟩, 14), (⟨"GlobalMinCutModel", "badPair", "(II)Z"⟩, 3), (⟨"GlobalMinCutModel", "leastOf", "(III)I"⟩, 3), (⟨"GlobalMinCutModel", "separates", "(III)Z"⟩, 3)]
theorem lw_r1 : ∀ q ∈ lw_privs_1, lw_okq q := List.forall_mem_cons.mpr ⟨lw_p0, List.forall_mem_cons.mpr ⟨lw_p1, List.forall_mem_cons.mpr ⟨lw_p2, List.forall_mem_cons.mpr ⟨lw_p3, List.forall_mem_cons.mpr ⟨lw_p4, List.forall_mem_cons.mpr ⟨lw_p5, List.forall_mem_cons.mpr ⟨lw_p6, List.forall_mem_cons.mpr ⟨lw_p7, List.forall_mem_cons.mpr ⟨lw_p8, List.forall_mem_cons.mpr ⟨lw_p9, List.forall_mem_cons.mpr ⟨lw_p10, List.forall_mem_cons.mpr ⟨lw_p11, List.forall_mem_cons.mpr ⟨lw_p12, List.forall_mem_cons.mpr ⟨lw_p13, List.forall_mem_cons.mpr ⟨lw_p14, List.forall_mem_cons.mpr ⟨lw_p15, fun _ h => absurd h List.not_mem_nil⟩⟩⟩⟩⟩⟩⟩⟩⟩⟩⟩⟩⟩⟩⟩⟩
theorem lw_p16 : lw_okq (⟨"GlobalMinCutModel", "allowed", "(II)I"⟩, 3) := ⟨⟨by decide +kernel, by decide +kernel⟩, List.mem_of_getElem? (i := 150) rfl, List.mem_of_getElem? (i := 195) rfl, List.mem_of_getElem? (i := 196) rfl⟩
def lw_privs_2 : List (MethodName × Nat) := [(⟨"GlobalMinCutModel", "allowed", "(II)I"⟩, 3)]
theorem lw_r2 : ∀ q ∈ lw_privs_2, lw_okq q := List.forall_mem_cons.mpr ⟨lw_p16, fun _ h => absurd h List.not_mem_nil⟩
def lw_privs : List (MethodName × Nat) := lw_privs_1 ++ (lw_privs_2)
def lw_tbl : List Cond := k2_sels lw_privs ++ tables_1
theorem lw_privs_ok : ∀ q ∈ lw_privs, lw_okq q := by
  show ∀ q ∈ lw_privs_1 ++ (lw_privs_2), lw_okq q
  exact List.forall_mem_append.mpr ⟨lw_r1, lw_r2⟩
-- ===== ONE list of words for every method: the tables' words that hold all through a run =====
def lw_all : List Cond := lw_tbl.filter goodWord
/-- a word of the tables by its place: claim/WORDS.tsv -/
theorem lw_w {w : Cond} (i : Nat) (h : lw_tbl[i]? = some w) (g : goodWord w = true) : w ∈ lw_all := List.mem_filter.mpr ⟨List.mem_of_getElem? h, g⟩
theorem lw_all_tbl {w : Cond} (h : w ∈ lw_all) : w ∈ lw_tbl := (List.mem_filter.mp h).1
theorem lw_self : GoodIn lw_all lw_all := fun w h => ⟨h, good_of_word (List.mem_filter.mp h).2⟩
/-- a class's field words, by their places -/
theorem lw_in (ws : List Cond) (ps : List Nat) (hp : ws = ps.filterMap (fun i => lw_tbl[i]?)) (hg : ws.all goodWord = true) : ∀ w ∈ ws, w ∈ lw_all := by
  intro w h
  have h1 := List.all_eq_true.mp hg w h
  rw [hp] at h
  obtain ⟨i, -, hi⟩ := List.mem_filterMap.mp h
  exact lw_w i hi h1
/-- the words of a contract for the method y with code b, L locals, answer r -/
abbrev ws_ (y : MethodName) (b : ByteArray) (L : Nat) (r : Option FieldType) : List Cond := Cond.code y b L r :: lw_all
theorem lw_meth {y : MethodName} {b : ByteArray} {L : Nat} {r : Option FieldType} (h : Cond.code y b L r ∈ lw_all) : GoodIn lw_all (ws_ y b L r) := by
  intro w hw
  rcases List.mem_cons.mp hw with e | e
  · rw [e]
    exact lw_self _ h
  · exact lw_self _ e
theorem lw_app {a c : List Cond} (ha : ∀ w ∈ a, w ∈ lw_all) (hc : GoodIn lw_all c) : GoodIn lw_all (a ++ c) := by
  intro w hw
  rcases List.mem_append.mp hw with e | e
  · exact lw_self w (ha w e)
  · exact hc w e
/-- what a call through an object asks: cwV n hts (lw_V ..) -/
theorem lw_V {own : String} {idx : Nat} {C : String} {y : MethodName} {b : ByteArray} {L : Nat} {r : Option FieldType} (h1 : Cond.methodLink own idx y ∈ lw_all) (h2 : Cond.instanceMethod y ∈ lw_all) (h3 : Cond.selects C y y ∈ lw_all) (h4 : Cond.initialized C ∈ lw_all) (h5 : Cond.code y b L r ∈ lw_all) : GoodIn lw_all (wsV own idx C y (ws_ y b L r)) := by
  refine lw_app ?_ (lw_meth h5)
  intro w hw
  simp only [List.mem_cons, List.not_mem_nil, or_false] at hw
  rcases hw with e | e | e | e
  · rw [e]; exact h1
  · rw [e]; exact h2
  · rw [e]; exact h3
  · rw [e]; exact h4
/-- what a static call asks: va_cwS n hts (lw_S ..) -/
theorem lw_S {own : String} {idx : Nat} {y : MethodName} {b : ByteArray} {L : Nat} {r : Option FieldType} (h1 : Cond.methodLink own idx y ∈ lw_all) (h2 : Cond.static y ∈ lw_all) (h3 : Cond.initialized y.cls ∈ lw_all) (h4 : Cond.code y b L r ∈ lw_all) : GoodIn lw_all (va_wsS own idx y (ws_ y b L r)) := by
  refine lw_app ?_ (lw_meth h4)
  intro w hw
  simp only [List.mem_cons, List.not_mem_nil, or_false] at hw
  rcases hw with e | e | e
  · rw [e]; exact h1
  · rw [e]; exact h2
  · rw [e]; exact h3
/-- the words of a contract for a method WITH HANDLERS (hh: its table) -/
abbrev wsW_ (y : MethodName) (b : ByteArray) (L : Nat) (r : Option FieldType) (hh : List (Nat × Nat × Nat × Nat)) : List Cond := Cond.codeWith y b L r hh :: lw_all
theorem lw_methW {y : MethodName} {b : ByteArray} {L : Nat} {r : Option FieldType} {hh : List (Nat × Nat × Nat × Nat)} (h : Cond.codeWith y b L r hh ∈ lw_all) : GoodIn lw_all (wsW_ y b L r hh) := by
  intro w hw
  rcases List.mem_cons.mp hw with e | e
  · rw [e]
    exact lw_self _ h
  · exact lw_self _ e
/-- any list of words by their places (lw_in), good -/
theorem lw_good {ws : List Cond} (h : ∀ w ∈ ws, w ∈ lw_all) : GoodIn lw_all ws := fun w hw => lw_self w (h w hw)
/-- what a call of a method with handlers asks: vx_cwVW n hts (lw_VW ..), vx_cwSW n hts (lw_SW ..) -/
theorem lw_VW {own : String} {idx : Nat} {C : String} {y : MethodName} {b : ByteArray} {L : Nat} {r : Option FieldType} {hh : List (Nat × Nat × Nat × Nat)} (h1 : Cond.methodLink own idx y ∈ lw_all) (h2 : Cond.instanceMethod y ∈ lw_all) (h3 : Cond.selects C y y ∈ lw_all) (h4 : Cond.initialized C ∈ lw_all) (h5 : Cond.codeWith y b L r hh ∈ lw_all) : GoodIn lw_all (wsV own idx C y (wsW_ y b L r hh)) := by
  refine lw_app ?_ (lw_methW h5)
  intro w hw
  simp only [List.mem_cons, List.not_mem_nil, or_false] at hw
  rcases hw with e | e | e | e
  · rw [e]; exact h1
  · rw [e]; exact h2
  · rw [e]; exact h3
  · rw [e]; exact h4
theorem lw_SW {own : String} {idx : Nat} {y : MethodName} {b : ByteArray} {L : Nat} {r : Option FieldType} {hh : List (Nat × Nat × Nat × Nat)} (h1 : Cond.methodLink own idx y ∈ lw_all) (h2 : Cond.static y ∈ lw_all) (h3 : Cond.initialized y.cls ∈ lw_all) (h4 : Cond.codeWith y b L r hh ∈ lw_all) : GoodIn lw_all (va_wsS own idx y (wsW_ y b L r hh)) := by
  refine lw_app ?_ (lw_methW h4)
  intro w hw
  simp only [List.mem_cons, List.not_mem_nil, or_false] at hw
  rcases hw with e | e | e
  · rw [e]; exact h1
  · rw [e]; exact h2
  · rw [e]; exact h3
/-- a word by its place in its run of the tables -/
theorem lw_at {r : List Cond} (hr : ∀ w ∈ r, w ∈ lw_tbl) {w : Cond} (i : Nat) (h : r[i]? = some w) : w ∈ lw_tbl := hr w (List.mem_of_getElem? h)
theorem lw_g {w : Cond} (h : w ∈ lw_tbl) (g : goodWord w = true) : w ∈ lw_all := List.mem_filter.mpr ⟨h, g⟩
theorem lw_ms : ∀ w ∈ k2_sels lw_privs, w ∈ lw_tbl := fun w h => show w ∈ k2_sels lw_privs ++ tables_1 from List.mem_append_left _ h
theorem lw_m0 : ∀ w ∈ tables_1, w ∈ lw_tbl := fun w h => show w ∈ k2_sels lw_privs ++ tables_1 from List.mem_append_right (k2_sels lw_privs) h
theorem qs0 : (Cond.selects "GlobalMinCut" ⟨"GlobalMinCut", "badPair", "(II)Z"⟩ ⟨"GlobalMinCut", "badPair", "(II)Z"⟩) ∈ lw_all := lw_g (lw_at lw_ms 0 rfl) rfl
theorem qs1 : (Cond.selects "GlobalMinCut" ⟨"GlobalMinCut", "startLabels", "(I)V"⟩ ⟨"GlobalMinCut", "startLabels", "(I)V"⟩) ∈ lw_all := lw_g (lw_at lw_ms 1 rfl) rfl
theorem qs2 : (Cond.selects "GlobalMinCut" ⟨"GlobalMinCut", "mergeLabels", "(II)V"⟩ ⟨"GlobalMinCut", "mergeLabels", "(II)V"⟩) ∈ lw_all := lw_g (lw_at lw_ms 2 rfl) rfl
theorem qs3 : (Cond.selects "GlobalMinCut" ⟨"GlobalMinCut", "sumWeights", "(I)V"⟩ ⟨"GlobalMinCut", "sumWeights", "(I)V"⟩) ∈ lw_all := lw_g (lw_at lw_ms 3 rfl) rfl
theorem qs4 : (Cond.selects "GlobalMinCut" ⟨"GlobalMinCut", "leastOfGroups", "()I"⟩ ⟨"GlobalMinCut", "leastOfGroups", "()I"⟩) ∈ lw_all := lw_g (lw_at lw_ms 4 rfl) rfl
theorem qs5 : (Cond.selects "GlobalMinCut" ⟨"GlobalMinCut", "phase", "(I)I"⟩ ⟨"GlobalMinCut", "phase", "(I)I"⟩) ∈ lw_all := lw_g (lw_at lw_ms 5 rfl) rfl
theorem qs6 : (Cond.selects "GlobalMinCut" ⟨"GlobalMinCut", "mostHanging", "()I"⟩ ⟨"GlobalMinCut", "mostHanging", "()I"⟩) ∈ lw_all := lw_g (lw_at lw_ms 6 rfl) rfl
theorem qs7 : (Cond.selects "GlobalMinCut" ⟨"GlobalMinCut", "mergeLastTwo", "()V"⟩ ⟨"GlobalMinCut", "mergeLastTwo", "()V"⟩) ∈ lw_all := lw_g (lw_at lw_ms 7 rfl) rfl
theorem qs8 : (Cond.selects "GlobalMinCut" ⟨"GlobalMinCut", "leastWith", "(II)I"⟩ ⟨"GlobalMinCut", "leastWith", "(II)I"⟩) ∈ lw_all := lw_g (lw_at lw_ms 8 rfl) rfl
theorem qs9 : (Cond.selects "GlobalMinCut" ⟨"GlobalMinCut", "mergeSet", "(I)V"⟩ ⟨"GlobalMinCut", "mergeSet", "(I)V"⟩) ∈ lw_all := lw_g (lw_at lw_ms 9 rfl) rfl
theorem qs10 : (Cond.selects "GlobalMinCut" ⟨"GlobalMinCut", "leastBetween", "(II)I"⟩ ⟨"GlobalMinCut", "leastBetween", "(II)I"⟩) ∈ lw_all := lw_g (lw_at lw_ms 10 rfl) rfl
theorem qs11 : (Cond.selects "GlobalMinCut" ⟨"GlobalMinCut", "findWay", "(II)Z"⟩ ⟨"GlobalMinCut", "findWay", "(II)Z"⟩) ∈ lw_all := lw_g (lw_at lw_ms 11 rfl) rfl
theorem qs12 : (Cond.selects "GlobalMinCut" ⟨"GlobalMinCut", "sendAlong", "(II)I"⟩ ⟨"GlobalMinCut", "sendAlong", "(II)I"⟩) ∈ lw_all := lw_g (lw_at lw_ms 12 rfl) rfl
theorem qs13 : (Cond.selects "GlobalMinCutModel" ⟨"GlobalMinCutModel", "badPair", "(II)Z"⟩ ⟨"GlobalMinCutModel", "badPair", "(II)Z"⟩) ∈ lw_all := lw_g (lw_at lw_ms 13 rfl) rfl
theorem qs14 : (Cond.selects "GlobalMinCutModel" ⟨"GlobalMinCutModel", "leastOf", "(III)I"⟩ ⟨"GlobalMinCutModel", "leastOf", "(III)I"⟩) ∈ lw_all := lw_g (lw_at lw_ms 14 rfl) rfl
theorem qs15 : (Cond.selects "GlobalMinCutModel" ⟨"GlobalMinCutModel", "separates", "(III)Z"⟩ ⟨"GlobalMinCutModel", "separates", "(III)Z"⟩) ∈ lw_all := lw_g (lw_at lw_ms 15 rfl) rfl
theorem qs16 : (Cond.selects "GlobalMinCutModel" ⟨"GlobalMinCutModel", "allowed", "(II)I"⟩ ⟨"GlobalMinCutModel", "allowed", "(II)I"⟩) ∈ lw_all := lw_g (lw_at lw_ms 16 rfl) rfl
end
section
/-! GlobalMinCut -/
set_option maxRecDepth 100000
def RX1 : String := "GlobalMinCut"
def TX1 : u_T := fun k => match k with
  | 0 => ("GlobalMinCut", "n", "I", true)
  | 1 => ("GlobalMinCut", "weights", "[I", true)
  | 2 => ("GlobalMinCut", "glued", "[Z", true)
  | 3 => ("GlobalMinCut", "label", "[I", true)
  | 4 => ("GlobalMinCut", "between", "[I", true)
  | 5 => ("GlobalMinCut", "groups", "I", false)
  | 6 => ("GlobalMinCut", "left", "[Z", true)
  | 7 => ("GlobalMinCut", "ordered", "[Z", true)
  | 8 => ("GlobalMinCut", "hang", "[I", true)
  | 9 => ("GlobalMinCut", "last", "I", false)
  | 10 => ("GlobalMinCut", "beforeLast", "I", false)
  | 11 => ("GlobalMinCut", "room", "[I", true)
  | 12 => ("GlobalMinCut", "cameFrom", "[I", true)
  | _ => ("GlobalMinCut", "queue", "[I", true)
def tyX1 : Nat → FieldType := fun k => match k with
  | 0 => .int
  | 1 => .array .int
  | 2 => .array .boolean
  | 3 => .array .int
  | 4 => .array .int
  | 5 => .int
  | 6 => .array .boolean
  | 7 => .array .boolean
  | 8 => .array .int
  | 9 => .int
  | 10 => .int
  | 11 => .array .int
  | 12 => .array .int
  | _ => .array .int
abbrev wsX10 : List Cond := u_ws RX1 TX1 14
set_option maxRecDepth 100000 in
theorem nmX1 : ∀ a, a < 14 → ∀ b, b < 14 → a ≠ b → (TX1 a).2.1 ≠ (TX1 b).2.1 := by decide +kernel
set_option maxRecDepth 100000 in
theorem tyX1_ok : ∀ k, k < 14 → parseFieldDescriptor (TX1 k).2.2.1 = some (tyX1 k) := by decide +kernel
abbrev cX1_init : ByteArray := prog_1_method_1_code
def yX1_init : MethodName := ⟨RX1, "<init>", "(I)V"⟩
theorem dX1_init_0 : decode cX1_init 0 = .ok (.aload_n 0, 1) := by decide +kernel
theorem dX1_init_1 : decode cX1_init 1 = .ok (.invokespecial 1, 3) := by decide +kernel
theorem dX1_init_4 : decode cX1_init 4 = .ok (.aload_n 0, 1) := by decide +kernel
theorem dX1_init_5 : decode cX1_init 5 = .ok (.bipush 81, 2) := by decide +kernel
theorem dX1_init_7 : decode cX1_init 7 = .ok (.newarray .int, 2) := by decide +kernel
theorem dX1_init_9 : decode cX1_init 9 = .ok (.putfield 7, 3) := by decide +kernel
theorem dX1_init_12 : decode cX1_init 12 = .ok (.aload_n 0, 1) := by decide +kernel
theorem dX1_init_13 : decode cX1_init 13 = .ok (.bipush 81, 2) := by decide +kernel
theorem dX1_init_15 : decode cX1_init 15 = .ok (.newarray .boolean, 2) := by decide +kernel
theorem dX1_init_17 : decode cX1_init 17 = .ok (.putfield 13, 3) := by decide +kernel
theorem dX1_init_20 : decode cX1_init 20 = .ok (.aload_n 0, 1) := by decide +kernel
theorem dX1_init_21 : decode cX1_init 21 = .ok (.bipush 9, 2) := by decide +kernel
theorem dX1_init_23 : decode cX1_init 23 = .ok (.newarray .int, 2) := by decide +kernel
theorem dX1_init_25 : decode cX1_init 25 = .ok (.putfield 17, 3) := by decide +kernel
theorem dX1_init_28 : decode cX1_init 28 = .ok (.aload_n 0, 1) := by decide +kernel
theorem dX1_init_29 : decode cX1_init 29 = .ok (.bipush 81, 2) := by decide +kernel
theorem dX1_init_31 : decode cX1_init 31 = .ok (.newarray .int, 2) := by decide +kernel
theorem dX1_init_33 : decode cX1_init 33 = .ok (.putfield 20, 3) := by decide +kernel
theorem dX1_init_36 : decode cX1_init 36 = .ok (.aload_n 0, 1) := by decide +kernel
theorem dX1_init_37 : decode cX1_init 37 = .ok (.bipush 9, 2) := by decide +kernel
theorem dX1_init_39 : decode cX1_init 39 = .ok (.newarray .boolean, 2) := by decide +kernel
theorem dX1_init_41 : decode cX1_init 41 = .ok (.putfield 23, 3) := by decide +kernel
theorem dX1_init_44 : decode cX1_init 44 = .ok (.aload_n 0, 1) := by decide +kernel
theorem dX1_init_45 : decode cX1_init 45 = .ok (.bipush 9, 2) := by decide +kernel
theorem dX1_init_47 : decode cX1_init 47 = .ok (.newarray .boolean, 2) := by decide +kernel
theorem dX1_init_49 : decode cX1_init 49 = .ok (.putfield 26, 3) := by decide +kernel
theorem dX1_init_52 : decode cX1_init 52 = .ok (.aload_n 0, 1) := by decide +kernel
theorem dX1_init_53 : decode cX1_init 53 = .ok (.bipush 9, 2) := by decide +kernel
theorem dX1_init_55 : decode cX1_init 55 = .ok (.newarray .int, 2) := by decide +kernel
theorem dX1_init_57 : decode cX1_init 57 = .ok (.putfield 29, 3) := by decide +kernel
theorem dX1_init_60 : decode cX1_init 60 = .ok (.aload_n 0, 1) := by decide +kernel
theorem dX1_init_61 : decode cX1_init 61 = .ok (.bipush 81, 2) := by decide +kernel
theorem dX1_init_63 : decode cX1_init 63 = .ok (.newarray .int, 2) := by decide +kernel
theorem dX1_init_65 : decode cX1_init 65 = .ok (.putfield 32, 3) := by decide +kernel
theorem dX1_init_68 : decode cX1_init 68 = .ok (.aload_n 0, 1) := by decide +kernel
theorem dX1_init_69 : decode cX1_init 69 = .ok (.bipush 9, 2) := by decide +kernel
theorem dX1_init_71 : decode cX1_init 71 = .ok (.newarray .int, 2) := by decide +kernel
theorem dX1_init_73 : decode cX1_init 73 = .ok (.putfield 35, 3) := by decide +kernel
theorem dX1_init_76 : decode cX1_init 76 = .ok (.aload_n 0, 1) := by decide +kernel
theorem dX1_init_77 : decode cX1_init 77 = .ok (.bipush 9, 2) := by decide +kernel
theorem dX1_init_79 : decode cX1_init 79 = .ok (.newarray .int, 2) := by decide +kernel
theorem dX1_init_81 : decode cX1_init 81 = .ok (.putfield 38, 3) := by decide +kernel
theorem dX1_init_84 : decode cX1_init 84 = .ok (.iload_n 1, 1) := by decide +kernel
theorem dX1_init_85 : decode cX1_init 85 = .ok (.istore_n 2, 1) := by decide +kernel
theorem dX1_init_86 : decode cX1_init 86 = .ok (.iload_n 2, 1) := by decide +kernel
theorem dX1_init_87 : decode cX1_init 87 = .ok (.iconst 2, 1) := by decide +kernel
theorem dX1_init_88 : decode cX1_init 88 = .ok (.if_icmp .ge 5, 3) := by decide +kernel
theorem dX1_init_91 : decode cX1_init 91 = .ok (.iconst 2, 1) := by decide +kernel
theorem dX1_init_92 : decode cX1_init 92 = .ok (.istore_n 2, 1) := by decide +kernel
theorem dX1_init_93 : decode cX1_init 93 = .ok (.iload_n 2, 1) := by decide +kernel
theorem dX1_init_94 : decode cX1_init 94 = .ok (.bipush 9, 2) := by decide +kernel
theorem dX1_init_96 : decode cX1_init 96 = .ok (.if_icmp .le 6, 3) := by decide +kernel
theorem dX1_init_99 : decode cX1_init 99 = .ok (.bipush 9, 2) := by decide +kernel
theorem dX1_init_101 : decode cX1_init 101 = .ok (.istore_n 2, 1) := by decide +kernel
theorem dX1_init_102 : decode cX1_init 102 = .ok (.aload_n 0, 1) := by decide +kernel
theorem dX1_init_103 : decode cX1_init 103 = .ok (.iload_n 2, 1) := by decide +kernel
theorem dX1_init_104 : decode cX1_init 104 = .ok (.putfield 41, 3) := by decide +kernel
theorem dX1_init_107 : decode cX1_init 107 = .ok (.return_, 1) := by decide +kernel
abbrev cX1_weight : ByteArray := prog_1_method_3_code
def yX1_weight : MethodName := ⟨RX1, "weight", "(III)I"⟩
theorem dX1_weight_0 : decode cX1_weight 0 = .ok (.aload_n 0, 1) := by decide +kernel
theorem dX1_weight_1 : decode cX1_weight 1 = .ok (.iload_n 1, 1) := by decide +kernel
theorem dX1_weight_2 : decode cX1_weight 2 = .ok (.iload_n 2, 1) := by decide +kernel
theorem dX1_weight_3 : decode cX1_weight 3 = .ok (.invokevirtual 45, 3) := by decide +kernel
theorem dX1_weight_6 : decode cX1_weight 6 = .ok (.ifCond .eq 5, 3) := by decide +kernel
theorem dX1_weight_9 : decode cX1_weight 9 = .ok (.iconst (-1), 1) := by decide +kernel
theorem dX1_weight_10 : decode cX1_weight 10 = .ok (.ireturn, 1) := by decide +kernel
theorem dX1_weight_11 : decode cX1_weight 11 = .ok (.iload_n 3, 1) := by decide +kernel
theorem dX1_weight_12 : decode cX1_weight 12 = .ok (.ifCond .lt 9, 3) := by decide +kernel
theorem dX1_weight_15 : decode cX1_weight 15 = .ok (.iload_n 3, 1) := by decide +kernel
theorem dX1_weight_16 : decode cX1_weight 16 = .ok (.bipush 50, 2) := by decide +kernel
theorem dX1_weight_18 : decode cX1_weight 18 = .ok (.if_icmp .le 6, 3) := by decide +kernel
theorem dX1_weight_21 : decode cX1_weight 21 = .ok (.bipush (-2), 2) := by decide +kernel
theorem dX1_weight_23 : decode cX1_weight 23 = .ok (.ireturn, 1) := by decide +kernel
theorem dX1_weight_24 : decode cX1_weight 24 = .ok (.aload_n 0, 1) := by decide +kernel
theorem dX1_weight_25 : decode cX1_weight 25 = .ok (.getfield 7, 3) := by decide +kernel
theorem dX1_weight_28 : decode cX1_weight 28 = .ok (.iload_n 1, 1) := by decide +kernel
theorem dX1_weight_29 : decode cX1_weight 29 = .ok (.bipush 9, 2) := by decide +kernel
theorem dX1_weight_31 : decode cX1_weight 31 = .ok (.imul, 1) := by decide +kernel
theorem dX1_weight_32 : decode cX1_weight 32 = .ok (.iload_n 2, 1) := by decide +kernel
theorem dX1_weight_33 : decode cX1_weight 33 = .ok (.iadd, 1) := by decide +kernel
theorem dX1_weight_34 : decode cX1_weight 34 = .ok (.iaload, 1) := by decide +kernel
theorem dX1_weight_35 : decode cX1_weight 35 = .ok (.istore 4, 2) := by decide +kernel
theorem dX1_weight_37 : decode cX1_weight 37 = .ok (.aload_n 0, 1) := by decide +kernel
theorem dX1_weight_38 : decode cX1_weight 38 = .ok (.getfield 7, 3) := by decide +kernel
theorem dX1_weight_41 : decode cX1_weight 41 = .ok (.iload_n 1, 1) := by decide +kernel
theorem dX1_weight_42 : decode cX1_weight 42 = .ok (.bipush 9, 2) := by decide +kernel
theorem dX1_weight_44 : decode cX1_weight 44 = .ok (.imul, 1) := by decide +kernel
theorem dX1_weight_45 : decode cX1_weight 45 = .ok (.iload_n 2, 1) := by decide +kernel
theorem dX1_weight_46 : decode cX1_weight 46 = .ok (.iadd, 1) := by decide +kernel
theorem dX1_weight_47 : decode cX1_weight 47 = .ok (.iload_n 3, 1) := by decide +kernel
theorem dX1_weight_48 : decode cX1_weight 48 = .ok (.iastore, 1) := by decide +kernel
theorem dX1_weight_49 : decode cX1_weight 49 = .ok (.aload_n 0, 1) := by decide +kernel
theorem dX1_weight_50 : decode cX1_weight 50 = .ok (.getfield 7, 3) := by decide +kernel
theorem dX1_weight_53 : decode cX1_weight 53 = .ok (.iload_n 2, 1) := by decide +kernel
theorem dX1_weight_54 : decode cX1_weight 54 = .ok (.bipush 9, 2) := by decide +kernel
theorem dX1_weight_56 : decode cX1_weight 56 = .ok (.imul, 1) := by decide +kernel
theorem dX1_weight_57 : decode cX1_weight 57 = .ok (.iload_n 1, 1) := by decide +kernel
theorem dX1_weight_58 : decode cX1_weight 58 = .ok (.iadd, 1) := by decide +kernel
theorem dX1_weight_59 : decode cX1_weight 59 = .ok (.iload_n 3, 1) := by decide +kernel
theorem dX1_weight_60 : decode cX1_weight 60 = .ok (.iastore, 1) := by decide +kernel
theorem dX1_weight_61 : decode cX1_weight 61 = .ok (.iload 4, 2) := by decide +kernel
theorem dX1_weight_63 : decode cX1_weight 63 = .ok (.ireturn, 1) := by decide +kernel
abbrev cX1_badPair : ByteArray := prog_1_method_2_code
def yX1_badPair : MethodName := ⟨RX1, "badPair", "(II)Z"⟩
theorem dX1_badPair_0 : decode cX1_badPair 0 = .ok (.iload_n 1, 1) := by decide +kernel
theorem dX1_badPair_1 : decode cX1_badPair 1 = .ok (.ifCond .lt 28, 3) := by decide +kernel
theorem dX1_badPair_4 : decode cX1_badPair 4 = .ok (.iload_n 1, 1) := by decide +kernel
theorem dX1_badPair_5 : decode cX1_badPair 5 = .ok (.aload_n 0, 1) := by decide +kernel
theorem dX1_badPair_6 : decode cX1_badPair 6 = .ok (.getfield 41, 3) := by decide +kernel
theorem dX1_badPair_9 : decode cX1_badPair 9 = .ok (.if_icmp .ge 20, 3) := by decide +kernel
theorem dX1_badPair_12 : decode cX1_badPair 12 = .ok (.iload_n 2, 1) := by decide +kernel
theorem dX1_badPair_13 : decode cX1_badPair 13 = .ok (.ifCond .lt 16, 3) := by decide +kernel
theorem dX1_badPair_16 : decode cX1_badPair 16 = .ok (.iload_n 2, 1) := by decide +kernel
theorem dX1_badPair_17 : decode cX1_badPair 17 = .ok (.aload_n 0, 1) := by decide +kernel
theorem dX1_badPair_18 : decode cX1_badPair 18 = .ok (.getfield 41, 3) := by decide +kernel
theorem dX1_badPair_21 : decode cX1_badPair 21 = .ok (.if_icmp .ge 8, 3) := by decide +kernel
theorem dX1_badPair_24 : decode cX1_badPair 24 = .ok (.iload_n 1, 1) := by decide +kernel
theorem dX1_badPair_25 : decode cX1_badPair 25 = .ok (.iload_n 2, 1) := by decide +kernel
theorem dX1_badPair_26 : decode cX1_badPair 26 = .ok (.if_icmp .ne 7, 3) := by decide +kernel
theorem dX1_badPair_29 : decode cX1_badPair 29 = .ok (.iconst 1, 1) := by decide +kernel
theorem dX1_badPair_30 : decode cX1_badPair 30 = .ok (.goto 4, 3) := by decide +kernel
theorem dX1_badPair_33 : decode cX1_badPair 33 = .ok (.iconst 0, 1) := by decide +kernel
theorem dX1_badPair_34 : decode cX1_badPair 34 = .ok (.ireturn, 1) := by decide +kernel
abbrev cX1_change : ByteArray := prog_1_method_4_code
def yX1_change : MethodName := ⟨RX1, "change", "(III)I"⟩
theorem dX1_change_0 : decode cX1_change 0 = .ok (.aload_n 0, 1) := by decide +kernel
theorem dX1_change_1 : decode cX1_change 1 = .ok (.iload_n 1, 1) := by decide +kernel
theorem dX1_change_2 : decode cX1_change 2 = .ok (.iload_n 2, 1) := by decide +kernel
theorem dX1_change_3 : decode cX1_change 3 = .ok (.invokevirtual 45, 3) := by decide +kernel
theorem dX1_change_6 : decode cX1_change 6 = .ok (.ifCond .eq 5, 3) := by decide +kernel
theorem dX1_change_9 : decode cX1_change 9 = .ok (.iconst (-1), 1) := by decide +kernel
theorem dX1_change_10 : decode cX1_change 10 = .ok (.ireturn, 1) := by decide +kernel
theorem dX1_change_11 : decode cX1_change 11 = .ok (.aload_n 0, 1) := by decide +kernel
theorem dX1_change_12 : decode cX1_change 12 = .ok (.getfield 7, 3) := by decide +kernel
theorem dX1_change_15 : decode cX1_change 15 = .ok (.iload_n 1, 1) := by decide +kernel
theorem dX1_change_16 : decode cX1_change 16 = .ok (.bipush 9, 2) := by decide +kernel
theorem dX1_change_18 : decode cX1_change 18 = .ok (.imul, 1) := by decide +kernel
theorem dX1_change_19 : decode cX1_change 19 = .ok (.iload_n 2, 1) := by decide +kernel
theorem dX1_change_20 : decode cX1_change 20 = .ok (.iadd, 1) := by decide +kernel
theorem dX1_change_21 : decode cX1_change 21 = .ok (.iaload, 1) := by decide +kernel
theorem dX1_change_22 : decode cX1_change 22 = .ok (.istore 4, 2) := by decide +kernel
theorem dX1_change_24 : decode cX1_change 24 = .ok (.iload 4, 2) := by decide +kernel
theorem dX1_change_26 : decode cX1_change 26 = .ok (.istore 5, 2) := by decide +kernel
theorem dX1_change_28 : decode cX1_change 28 = .ok (.iload_n 3, 1) := by decide +kernel
theorem dX1_change_29 : decode cX1_change 29 = .ok (.ifCond .le 23, 3) := by decide +kernel
theorem dX1_change_32 : decode cX1_change 32 = .ok (.iload_n 3, 1) := by decide +kernel
theorem dX1_change_33 : decode cX1_change 33 = .ok (.bipush 50, 2) := by decide +kernel
theorem dX1_change_35 : decode cX1_change 35 = .ok (.iload 4, 2) := by decide +kernel
theorem dX1_change_37 : decode cX1_change 37 = .ok (.isub, 1) := by decide +kernel
theorem dX1_change_38 : decode cX1_change 38 = .ok (.if_icmp .le 8, 3) := by decide +kernel
theorem dX1_change_41 : decode cX1_change 41 = .ok (.bipush 50, 2) := by decide +kernel
theorem dX1_change_43 : decode cX1_change 43 = .ok (.goto 7, 3) := by decide +kernel
theorem dX1_change_46 : decode cX1_change 46 = .ok (.iload 4, 2) := by decide +kernel
theorem dX1_change_48 : decode cX1_change 48 = .ok (.iload_n 3, 1) := by decide +kernel
theorem dX1_change_49 : decode cX1_change 49 = .ok (.iadd, 1) := by decide +kernel
theorem dX1_change_50 : decode cX1_change 50 = .ok (.istore 5, 2) := by decide +kernel
theorem dX1_change_52 : decode cX1_change 52 = .ok (.iload_n 3, 1) := by decide +kernel
theorem dX1_change_53 : decode cX1_change 53 = .ok (.ifCond .ge 20, 3) := by decide +kernel
theorem dX1_change_56 : decode cX1_change 56 = .ok (.iload_n 3, 1) := by decide +kernel
theorem dX1_change_57 : decode cX1_change 57 = .ok (.iload 4, 2) := by decide +kernel
theorem dX1_change_59 : decode cX1_change 59 = .ok (.ineg, 1) := by decide +kernel
theorem dX1_change_60 : decode cX1_change 60 = .ok (.if_icmp .ge 7, 3) := by decide +kernel
theorem dX1_change_63 : decode cX1_change 63 = .ok (.iconst 0, 1) := by decide +kernel
theorem dX1_change_64 : decode cX1_change 64 = .ok (.goto 7, 3) := by decide +kernel
theorem dX1_change_67 : decode cX1_change 67 = .ok (.iload 4, 2) := by decide +kernel
theorem dX1_change_69 : decode cX1_change 69 = .ok (.iload_n 3, 1) := by decide +kernel
theorem dX1_change_70 : decode cX1_change 70 = .ok (.iadd, 1) := by decide +kernel
theorem dX1_change_71 : decode cX1_change 71 = .ok (.istore 5, 2) := by decide +kernel
theorem dX1_change_73 : decode cX1_change 73 = .ok (.aload_n 0, 1) := by decide +kernel
theorem dX1_change_74 : decode cX1_change 74 = .ok (.getfield 7, 3) := by decide +kernel
theorem dX1_change_77 : decode cX1_change 77 = .ok (.iload_n 1, 1) := by decide +kernel
theorem dX1_change_78 : decode cX1_change 78 = .ok (.bipush 9, 2) := by decide +kernel
theorem dX1_change_80 : decode cX1_change 80 = .ok (.imul, 1) := by decide +kernel
theorem dX1_change_81 : decode cX1_change 81 = .ok (.iload_n 2, 1) := by decide +kernel
theorem dX1_change_82 : decode cX1_change 82 = .ok (.iadd, 1) := by decide +kernel
theorem dX1_change_83 : decode cX1_change 83 = .ok (.iload 5, 2) := by decide +kernel
theorem dX1_change_85 : decode cX1_change 85 = .ok (.iastore, 1) := by decide +kernel
theorem dX1_change_86 : decode cX1_change 86 = .ok (.aload_n 0, 1) := by decide +kernel
theorem dX1_change_87 : decode cX1_change 87 = .ok (.getfield 7, 3) := by decide +kernel
theorem dX1_change_90 : decode cX1_change 90 = .ok (.iload_n 2, 1) := by decide +kernel
theorem dX1_change_91 : decode cX1_change 91 = .ok (.bipush 9, 2) := by decide +kernel
theorem dX1_change_93 : decode cX1_change 93 = .ok (.imul, 1) := by decide +kernel
theorem dX1_change_94 : decode cX1_change 94 = .ok (.iload_n 1, 1) := by decide +kernel
theorem dX1_change_95 : decode cX1_change 95 = .ok (.iadd, 1) := by decide +kernel
theorem dX1_change_96 : decode cX1_change 96 = .ok (.iload 5, 2) := by decide +kernel
theorem dX1_change_98 : decode cX1_change 98 = .ok (.iastore, 1) := by decide +kernel
theorem dX1_change_99 : decode cX1_change 99 = .ok (.iload 5, 2) := by decide +kernel
theorem dX1_change_101 : decode cX1_change 101 = .ok (.ireturn, 1) := by decide +kernel
abbrev cX1_glue : ByteArray := prog_1_method_5_code
def yX1_glue : MethodName := ⟨RX1, "glue", "(IIZ)I"⟩
theorem dX1_glue_0 : decode cX1_glue 0 = .ok (.aload_n 0, 1) := by decide +kernel
theorem dX1_glue_1 : decode cX1_glue 1 = .ok (.iload_n 1, 1) := by decide +kernel
theorem dX1_glue_2 : decode cX1_glue 2 = .ok (.iload_n 2, 1) := by decide +kernel
theorem dX1_glue_3 : decode cX1_glue 3 = .ok (.invokevirtual 45, 3) := by decide +kernel
theorem dX1_glue_6 : decode cX1_glue 6 = .ok (.ifCond .eq 5, 3) := by decide +kernel
theorem dX1_glue_9 : decode cX1_glue 9 = .ok (.iconst (-1), 1) := by decide +kernel
theorem dX1_glue_10 : decode cX1_glue 10 = .ok (.ireturn, 1) := by decide +kernel
theorem dX1_glue_11 : decode cX1_glue 11 = .ok (.aload_n 0, 1) := by decide +kernel
theorem dX1_glue_12 : decode cX1_glue 12 = .ok (.getfield 13, 3) := by decide +kernel
theorem dX1_glue_15 : decode cX1_glue 15 = .ok (.iload_n 1, 1) := by decide +kernel
theorem dX1_glue_16 : decode cX1_glue 16 = .ok (.bipush 9, 2) := by decide +kernel
theorem dX1_glue_18 : decode cX1_glue 18 = .ok (.imul, 1) := by decide +kernel
theorem dX1_glue_19 : decode cX1_glue 19 = .ok (.iload_n 2, 1) := by decide +kernel
theorem dX1_glue_20 : decode cX1_glue 20 = .ok (.iadd, 1) := by decide +kernel
theorem dX1_glue_21 : decode cX1_glue 21 = .ok (.baload, 1) := by decide +kernel
theorem dX1_glue_22 : decode cX1_glue 22 = .ok (.ifCond .eq 7, 3) := by decide +kernel
theorem dX1_glue_25 : decode cX1_glue 25 = .ok (.iconst 1, 1) := by decide +kernel
theorem dX1_glue_26 : decode cX1_glue 26 = .ok (.goto 4, 3) := by decide +kernel
theorem dX1_glue_29 : decode cX1_glue 29 = .ok (.iconst 0, 1) := by decide +kernel
theorem dX1_glue_30 : decode cX1_glue 30 = .ok (.istore 4, 2) := by decide +kernel
theorem dX1_glue_32 : decode cX1_glue 32 = .ok (.aload_n 0, 1) := by decide +kernel
theorem dX1_glue_33 : decode cX1_glue 33 = .ok (.getfield 13, 3) := by decide +kernel
theorem dX1_glue_36 : decode cX1_glue 36 = .ok (.iload_n 1, 1) := by decide +kernel
theorem dX1_glue_37 : decode cX1_glue 37 = .ok (.bipush 9, 2) := by decide +kernel
theorem dX1_glue_39 : decode cX1_glue 39 = .ok (.imul, 1) := by decide +kernel
theorem dX1_glue_40 : decode cX1_glue 40 = .ok (.iload_n 2, 1) := by decide +kernel
theorem dX1_glue_41 : decode cX1_glue 41 = .ok (.iadd, 1) := by decide +kernel
theorem dX1_glue_42 : decode cX1_glue 42 = .ok (.iload_n 3, 1) := by decide +kernel
theorem dX1_glue_43 : decode cX1_glue 43 = .ok (.bastore, 1) := by decide +kernel
theorem dX1_glue_44 : decode cX1_glue 44 = .ok (.aload_n 0, 1) := by decide +kernel
theorem dX1_glue_45 : decode cX1_glue 45 = .ok (.getfield 13, 3) := by decide +kernel
theorem dX1_glue_48 : decode cX1_glue 48 = .ok (.iload_n 2, 1) := by decide +kernel
theorem dX1_glue_49 : decode cX1_glue 49 = .ok (.bipush 9, 2) := by decide +kernel
theorem dX1_glue_51 : decode cX1_glue 51 = .ok (.imul, 1) := by decide +kernel
theorem dX1_glue_52 : decode cX1_glue 52 = .ok (.iload_n 1, 1) := by decide +kernel
theorem dX1_glue_53 : decode cX1_glue 53 = .ok (.iadd, 1) := by decide +kernel
theorem dX1_glue_54 : decode cX1_glue 54 = .ok (.iload_n 3, 1) := by decide +kernel
theorem dX1_glue_55 : decode cX1_glue 55 = .ok (.bastore, 1) := by decide +kernel
theorem dX1_glue_56 : decode cX1_glue 56 = .ok (.iload 4, 2) := by decide +kernel
theorem dX1_glue_58 : decode cX1_glue 58 = .ok (.ireturn, 1) := by decide +kernel
abbrev cX1_least : ByteArray := prog_1_method_17_code
def yX1_least : MethodName := ⟨RX1, "least", "()I"⟩
theorem dX1_least_0 : decode cX1_least 0 = .ok (.aload_n 0, 1) := by decide +kernel
theorem dX1_least_1 : decode cX1_least 1 = .ok (.iconst (-1), 1) := by decide +kernel
theorem dX1_least_2 : decode cX1_least 2 = .ok (.invokevirtual 81, 3) := by decide +kernel
theorem dX1_least_5 : decode cX1_least 5 = .ok (.aload_n 0, 1) := by decide +kernel
theorem dX1_least_6 : decode cX1_least 6 = .ok (.iconst (-1), 1) := by decide +kernel
theorem dX1_least_7 : decode cX1_least 7 = .ok (.invokevirtual 85, 3) := by decide +kernel
theorem dX1_least_10 : decode cX1_least 10 = .ok (.aload_n 0, 1) := by decide +kernel
theorem dX1_least_11 : decode cX1_least 11 = .ok (.invokevirtual 88, 3) := by decide +kernel
theorem dX1_least_14 : decode cX1_least 14 = .ok (.ireturn, 1) := by decide +kernel
abbrev cX1_startLabels : ByteArray := prog_1_method_7_code
def yX1_startLabels : MethodName := ⟨RX1, "startLabels", "(I)V"⟩
theorem dX1_startLabels_0 : decode cX1_startLabels 0 = .ok (.iconst 0, 1) := by decide +kernel
theorem dX1_startLabels_1 : decode cX1_startLabels 1 = .ok (.istore_n 2, 1) := by decide +kernel
theorem dX1_startLabels_2 : decode cX1_startLabels 2 = .ok (.iload_n 2, 1) := by decide +kernel
theorem dX1_startLabels_3 : decode cX1_startLabels 3 = .ok (.aload_n 0, 1) := by decide +kernel
theorem dX1_startLabels_4 : decode cX1_startLabels 4 = .ok (.getfield 41, 3) := by decide +kernel
theorem dX1_startLabels_7 : decode cX1_startLabels 7 = .ok (.if_icmp .ge 16, 3) := by decide +kernel
theorem dX1_startLabels_10 : decode cX1_startLabels 10 = .ok (.aload_n 0, 1) := by decide +kernel
theorem dX1_startLabels_11 : decode cX1_startLabels 11 = .ok (.getfield 17, 3) := by decide +kernel
theorem dX1_startLabels_14 : decode cX1_startLabels 14 = .ok (.iload_n 2, 1) := by decide +kernel
theorem dX1_startLabels_15 : decode cX1_startLabels 15 = .ok (.iload_n 2, 1) := by decide +kernel
theorem dX1_startLabels_16 : decode cX1_startLabels 16 = .ok (.iastore, 1) := by decide +kernel
theorem dX1_startLabels_17 : decode cX1_startLabels 17 = .ok (.iinc 2 1, 3) := by decide +kernel
theorem dX1_startLabels_20 : decode cX1_startLabels 20 = .ok (.goto (-18), 3) := by decide +kernel
theorem dX1_startLabels_23 : decode cX1_startLabels 23 = .ok (.iconst 0, 1) := by decide +kernel
theorem dX1_startLabels_24 : decode cX1_startLabels 24 = .ok (.istore_n 2, 1) := by decide +kernel
theorem dX1_startLabels_25 : decode cX1_startLabels 25 = .ok (.iload_n 2, 1) := by decide +kernel
theorem dX1_startLabels_26 : decode cX1_startLabels 26 = .ok (.aload_n 0, 1) := by decide +kernel
theorem dX1_startLabels_27 : decode cX1_startLabels 27 = .ok (.getfield 41, 3) := by decide +kernel
theorem dX1_startLabels_30 : decode cX1_startLabels 30 = .ok (.if_icmp .ge 67, 3) := by decide +kernel
theorem dX1_startLabels_33 : decode cX1_startLabels 33 = .ok (.iload_n 2, 1) := by decide +kernel
theorem dX1_startLabels_34 : decode cX1_startLabels 34 = .ok (.iconst 1, 1) := by decide +kernel
theorem dX1_startLabels_35 : decode cX1_startLabels 35 = .ok (.iadd, 1) := by decide +kernel
theorem dX1_startLabels_36 : decode cX1_startLabels 36 = .ok (.istore_n 3, 1) := by decide +kernel
theorem dX1_startLabels_37 : decode cX1_startLabels 37 = .ok (.iload_n 3, 1) := by decide +kernel
theorem dX1_startLabels_38 : decode cX1_startLabels 38 = .ok (.aload_n 0, 1) := by decide +kernel
theorem dX1_startLabels_39 : decode cX1_startLabels 39 = .ok (.getfield 41, 3) := by decide +kernel
theorem dX1_startLabels_42 : decode cX1_startLabels 42 = .ok (.if_icmp .ge 49, 3) := by decide +kernel
theorem dX1_startLabels_45 : decode cX1_startLabels 45 = .ok (.iload_n 2, 1) := by decide +kernel
theorem dX1_startLabels_46 : decode cX1_startLabels 46 = .ok (.iload_n 1, 1) := by decide +kernel
theorem dX1_startLabels_47 : decode cX1_startLabels 47 = .ok (.if_icmp .eq 38, 3) := by decide +kernel
theorem dX1_startLabels_50 : decode cX1_startLabels 50 = .ok (.iload_n 3, 1) := by decide +kernel
theorem dX1_startLabels_51 : decode cX1_startLabels 51 = .ok (.iload_n 1, 1) := by decide +kernel
theorem dX1_startLabels_52 : decode cX1_startLabels 52 = .ok (.if_icmp .eq 33, 3) := by decide +kernel
theorem dX1_startLabels_55 : decode cX1_startLabels 55 = .ok (.aload_n 0, 1) := by decide +kernel
theorem dX1_startLabels_56 : decode cX1_startLabels 56 = .ok (.getfield 13, 3) := by decide +kernel
theorem dX1_startLabels_59 : decode cX1_startLabels 59 = .ok (.iload_n 2, 1) := by decide +kernel
theorem dX1_startLabels_60 : decode cX1_startLabels 60 = .ok (.bipush 9, 2) := by decide +kernel
theorem dX1_startLabels_62 : decode cX1_startLabels 62 = .ok (.imul, 1) := by decide +kernel
theorem dX1_startLabels_63 : decode cX1_startLabels 63 = .ok (.iload_n 3, 1) := by decide +kernel
theorem dX1_startLabels_64 : decode cX1_startLabels 64 = .ok (.iadd, 1) := by decide +kernel
theorem dX1_startLabels_65 : decode cX1_startLabels 65 = .ok (.baload, 1) := by decide +kernel
theorem dX1_startLabels_66 : decode cX1_startLabels 66 = .ok (.ifCond .eq 19, 3) := by decide +kernel
theorem dX1_startLabels_69 : decode cX1_startLabels 69 = .ok (.aload_n 0, 1) := by decide +kernel
theorem dX1_startLabels_70 : decode cX1_startLabels 70 = .ok (.aload_n 0, 1) := by decide +kernel
theorem dX1_startLabels_71 : decode cX1_startLabels 71 = .ok (.getfield 17, 3) := by decide +kernel
theorem dX1_startLabels_74 : decode cX1_startLabels 74 = .ok (.iload_n 2, 1) := by decide +kernel
theorem dX1_startLabels_75 : decode cX1_startLabels 75 = .ok (.iaload, 1) := by decide +kernel
theorem dX1_startLabels_76 : decode cX1_startLabels 76 = .ok (.aload_n 0, 1) := by decide +kernel
theorem dX1_startLabels_77 : decode cX1_startLabels 77 = .ok (.getfield 17, 3) := by decide +kernel
theorem dX1_startLabels_80 : decode cX1_startLabels 80 = .ok (.iload_n 3, 1) := by decide +kernel
theorem dX1_startLabels_81 : decode cX1_startLabels 81 = .ok (.iaload, 1) := by decide +kernel
theorem dX1_startLabels_82 : decode cX1_startLabels 82 = .ok (.invokevirtual 49, 3) := by decide +kernel
theorem dX1_startLabels_85 : decode cX1_startLabels 85 = .ok (.iinc 3 1, 3) := by decide +kernel
theorem dX1_startLabels_88 : decode cX1_startLabels 88 = .ok (.goto (-51), 3) := by decide +kernel
theorem dX1_startLabels_91 : decode cX1_startLabels 91 = .ok (.iinc 2 1, 3) := by decide +kernel
theorem dX1_startLabels_94 : decode cX1_startLabels 94 = .ok (.goto (-69), 3) := by decide +kernel
theorem dX1_startLabels_97 : decode cX1_startLabels 97 = .ok (.return_, 1) := by decide +kernel
abbrev cX1_mergeLabels : ByteArray := prog_1_method_6_code
def yX1_mergeLabels : MethodName := ⟨RX1, "mergeLabels", "(II)V"⟩
theorem dX1_mergeLabels_0 : decode cX1_mergeLabels 0 = .ok (.iload_n 1, 1) := by decide +kernel
theorem dX1_mergeLabels_1 : decode cX1_mergeLabels 1 = .ok (.iload_n 2, 1) := by decide +kernel
theorem dX1_mergeLabels_2 : decode cX1_mergeLabels 2 = .ok (.if_icmp .ge 7, 3) := by decide +kernel
theorem dX1_mergeLabels_5 : decode cX1_mergeLabels 5 = .ok (.iload_n 1, 1) := by decide +kernel
theorem dX1_mergeLabels_6 : decode cX1_mergeLabels 6 = .ok (.goto 4, 3) := by decide +kernel
theorem dX1_mergeLabels_9 : decode cX1_mergeLabels 9 = .ok (.iload_n 2, 1) := by decide +kernel
theorem dX1_mergeLabels_10 : decode cX1_mergeLabels 10 = .ok (.istore_n 3, 1) := by decide +kernel
theorem dX1_mergeLabels_11 : decode cX1_mergeLabels 11 = .ok (.iload_n 1, 1) := by decide +kernel
theorem dX1_mergeLabels_12 : decode cX1_mergeLabels 12 = .ok (.iload_n 2, 1) := by decide +kernel
theorem dX1_mergeLabels_13 : decode cX1_mergeLabels 13 = .ok (.if_icmp .ge 7, 3) := by decide +kernel
theorem dX1_mergeLabels_16 : decode cX1_mergeLabels 16 = .ok (.iload_n 2, 1) := by decide +kernel
theorem dX1_mergeLabels_17 : decode cX1_mergeLabels 17 = .ok (.goto 4, 3) := by decide +kernel
theorem dX1_mergeLabels_20 : decode cX1_mergeLabels 20 = .ok (.iload_n 1, 1) := by decide +kernel
theorem dX1_mergeLabels_21 : decode cX1_mergeLabels 21 = .ok (.istore 4, 2) := by decide +kernel
theorem dX1_mergeLabels_23 : decode cX1_mergeLabels 23 = .ok (.iconst 0, 1) := by decide +kernel
theorem dX1_mergeLabels_24 : decode cX1_mergeLabels 24 = .ok (.istore 5, 2) := by decide +kernel
theorem dX1_mergeLabels_26 : decode cX1_mergeLabels 26 = .ok (.iload 5, 2) := by decide +kernel
theorem dX1_mergeLabels_28 : decode cX1_mergeLabels 28 = .ok (.aload_n 0, 1) := by decide +kernel
theorem dX1_mergeLabels_29 : decode cX1_mergeLabels 29 = .ok (.getfield 41, 3) := by decide +kernel
theorem dX1_mergeLabels_32 : decode cX1_mergeLabels 32 = .ok (.if_icmp .ge 29, 3) := by decide +kernel
theorem dX1_mergeLabels_35 : decode cX1_mergeLabels 35 = .ok (.aload_n 0, 1) := by decide +kernel
theorem dX1_mergeLabels_36 : decode cX1_mergeLabels 36 = .ok (.getfield 17, 3) := by decide +kernel
theorem dX1_mergeLabels_39 : decode cX1_mergeLabels 39 = .ok (.iload 5, 2) := by decide +kernel
theorem dX1_mergeLabels_41 : decode cX1_mergeLabels 41 = .ok (.iaload, 1) := by decide +kernel
theorem dX1_mergeLabels_42 : decode cX1_mergeLabels 42 = .ok (.iload 4, 2) := by decide +kernel
theorem dX1_mergeLabels_44 : decode cX1_mergeLabels 44 = .ok (.if_icmp .ne 11, 3) := by decide +kernel
theorem dX1_mergeLabels_47 : decode cX1_mergeLabels 47 = .ok (.aload_n 0, 1) := by decide +kernel
theorem dX1_mergeLabels_48 : decode cX1_mergeLabels 48 = .ok (.getfield 17, 3) := by decide +kernel
theorem dX1_mergeLabels_51 : decode cX1_mergeLabels 51 = .ok (.iload 5, 2) := by decide +kernel
theorem dX1_mergeLabels_53 : decode cX1_mergeLabels 53 = .ok (.iload_n 3, 1) := by decide +kernel
theorem dX1_mergeLabels_54 : decode cX1_mergeLabels 54 = .ok (.iastore, 1) := by decide +kernel
theorem dX1_mergeLabels_55 : decode cX1_mergeLabels 55 = .ok (.iinc 5 1, 3) := by decide +kernel
theorem dX1_mergeLabels_58 : decode cX1_mergeLabels 58 = .ok (.goto (-32), 3) := by decide +kernel
theorem dX1_mergeLabels_61 : decode cX1_mergeLabels 61 = .ok (.return_, 1) := by decide +kernel
end
section
set_option maxRecDepth 100000
abbrev cX1_sumWeights : ByteArray := prog_1_method_9_code
def yX1_sumWeights : MethodName := ⟨RX1, "sumWeights", "(I)V"⟩
theorem dX1_sumWeights_0 : decode cX1_sumWeights 0 = .ok (.iconst 0, 1) := by decide +kernel
theorem dX1_sumWeights_1 : decode cX1_sumWeights 1 = .ok (.istore_n 2, 1) := by decide +kernel
theorem dX1_sumWeights_2 : decode cX1_sumWeights 2 = .ok (.iload_n 2, 1) := by decide +kernel
theorem dX1_sumWeights_3 : decode cX1_sumWeights 3 = .ok (.bipush 81, 2) := by decide +kernel
theorem dX1_sumWeights_5 : decode cX1_sumWeights 5 = .ok (.if_icmp .ge 16, 3) := by decide +kernel
theorem dX1_sumWeights_8 : decode cX1_sumWeights 8 = .ok (.aload_n 0, 1) := by decide +kernel
theorem dX1_sumWeights_9 : decode cX1_sumWeights 9 = .ok (.getfield 20, 3) := by decide +kernel
theorem dX1_sumWeights_12 : decode cX1_sumWeights 12 = .ok (.iload_n 2, 1) := by decide +kernel
theorem dX1_sumWeights_13 : decode cX1_sumWeights 13 = .ok (.iconst 0, 1) := by decide +kernel
theorem dX1_sumWeights_14 : decode cX1_sumWeights 14 = .ok (.iastore, 1) := by decide +kernel
theorem dX1_sumWeights_15 : decode cX1_sumWeights 15 = .ok (.iinc 2 1, 3) := by decide +kernel
theorem dX1_sumWeights_18 : decode cX1_sumWeights 18 = .ok (.goto (-16), 3) := by decide +kernel
theorem dX1_sumWeights_21 : decode cX1_sumWeights 21 = .ok (.aload_n 0, 1) := by decide +kernel
theorem dX1_sumWeights_22 : decode cX1_sumWeights 22 = .ok (.iconst 0, 1) := by decide +kernel
theorem dX1_sumWeights_23 : decode cX1_sumWeights 23 = .ok (.putfield 53, 3) := by decide +kernel
theorem dX1_sumWeights_26 : decode cX1_sumWeights 26 = .ok (.iconst 0, 1) := by decide +kernel
theorem dX1_sumWeights_27 : decode cX1_sumWeights 27 = .ok (.istore_n 2, 1) := by decide +kernel
theorem dX1_sumWeights_28 : decode cX1_sumWeights 28 = .ok (.iload_n 2, 1) := by decide +kernel
theorem dX1_sumWeights_29 : decode cX1_sumWeights 29 = .ok (.aload_n 0, 1) := by decide +kernel
theorem dX1_sumWeights_30 : decode cX1_sumWeights 30 = .ok (.getfield 41, 3) := by decide +kernel
theorem dX1_sumWeights_33 : decode cX1_sumWeights 33 = .ok (.if_icmp .ge 130, 3) := by decide +kernel
theorem dX1_sumWeights_36 : decode cX1_sumWeights 36 = .ok (.aload_n 0, 1) := by decide +kernel
theorem dX1_sumWeights_37 : decode cX1_sumWeights 37 = .ok (.getfield 23, 3) := by decide +kernel
theorem dX1_sumWeights_40 : decode cX1_sumWeights 40 = .ok (.iload_n 2, 1) := by decide +kernel
theorem dX1_sumWeights_41 : decode cX1_sumWeights 41 = .ok (.iload_n 2, 1) := by decide +kernel
theorem dX1_sumWeights_42 : decode cX1_sumWeights 42 = .ok (.iload_n 1, 1) := by decide +kernel
theorem dX1_sumWeights_43 : decode cX1_sumWeights 43 = .ok (.if_icmp .eq 17, 3) := by decide +kernel
theorem dX1_sumWeights_46 : decode cX1_sumWeights 46 = .ok (.aload_n 0, 1) := by decide +kernel
theorem dX1_sumWeights_47 : decode cX1_sumWeights 47 = .ok (.getfield 17, 3) := by decide +kernel
theorem dX1_sumWeights_50 : decode cX1_sumWeights 50 = .ok (.iload_n 2, 1) := by decide +kernel
theorem dX1_sumWeights_51 : decode cX1_sumWeights 51 = .ok (.iaload, 1) := by decide +kernel
theorem dX1_sumWeights_52 : decode cX1_sumWeights 52 = .ok (.iload_n 2, 1) := by decide +kernel
theorem dX1_sumWeights_53 : decode cX1_sumWeights 53 = .ok (.if_icmp .ne 7, 3) := by decide +kernel
theorem dX1_sumWeights_56 : decode cX1_sumWeights 56 = .ok (.iconst 1, 1) := by decide +kernel
theorem dX1_sumWeights_57 : decode cX1_sumWeights 57 = .ok (.goto 4, 3) := by decide +kernel
theorem dX1_sumWeights_60 : decode cX1_sumWeights 60 = .ok (.iconst 0, 1) := by decide +kernel
theorem dX1_sumWeights_61 : decode cX1_sumWeights 61 = .ok (.bastore, 1) := by decide +kernel
theorem dX1_sumWeights_62 : decode cX1_sumWeights 62 = .ok (.aload_n 0, 1) := by decide +kernel
theorem dX1_sumWeights_63 : decode cX1_sumWeights 63 = .ok (.getfield 23, 3) := by decide +kernel
theorem dX1_sumWeights_66 : decode cX1_sumWeights 66 = .ok (.iload_n 2, 1) := by decide +kernel
theorem dX1_sumWeights_67 : decode cX1_sumWeights 67 = .ok (.baload, 1) := by decide +kernel
theorem dX1_sumWeights_68 : decode cX1_sumWeights 68 = .ok (.ifCond .eq 13, 3) := by decide +kernel
theorem dX1_sumWeights_71 : decode cX1_sumWeights 71 = .ok (.aload_n 0, 1) := by decide +kernel
theorem dX1_sumWeights_72 : decode cX1_sumWeights 72 = .ok (.dup, 1) := by decide +kernel
theorem dX1_sumWeights_73 : decode cX1_sumWeights 73 = .ok (.getfield 53, 3) := by decide +kernel
theorem dX1_sumWeights_76 : decode cX1_sumWeights 76 = .ok (.iconst 1, 1) := by decide +kernel
theorem dX1_sumWeights_77 : decode cX1_sumWeights 77 = .ok (.iadd, 1) := by decide +kernel
theorem dX1_sumWeights_78 : decode cX1_sumWeights 78 = .ok (.putfield 53, 3) := by decide +kernel
theorem dX1_sumWeights_81 : decode cX1_sumWeights 81 = .ok (.iconst 0, 1) := by decide +kernel
theorem dX1_sumWeights_82 : decode cX1_sumWeights 82 = .ok (.istore_n 3, 1) := by decide +kernel
theorem dX1_sumWeights_83 : decode cX1_sumWeights 83 = .ok (.iload_n 3, 1) := by decide +kernel
theorem dX1_sumWeights_84 : decode cX1_sumWeights 84 = .ok (.aload_n 0, 1) := by decide +kernel
theorem dX1_sumWeights_85 : decode cX1_sumWeights 85 = .ok (.getfield 41, 3) := by decide +kernel
theorem dX1_sumWeights_88 : decode cX1_sumWeights 88 = .ok (.if_icmp .ge 69, 3) := by decide +kernel
theorem dX1_sumWeights_91 : decode cX1_sumWeights 91 = .ok (.iload_n 2, 1) := by decide +kernel
theorem dX1_sumWeights_92 : decode cX1_sumWeights 92 = .ok (.iload_n 1, 1) := by decide +kernel
theorem dX1_sumWeights_93 : decode cX1_sumWeights 93 = .ok (.if_icmp .eq 58, 3) := by decide +kernel
theorem dX1_sumWeights_96 : decode cX1_sumWeights 96 = .ok (.iload_n 3, 1) := by decide +kernel
theorem dX1_sumWeights_97 : decode cX1_sumWeights 97 = .ok (.iload_n 1, 1) := by decide +kernel
theorem dX1_sumWeights_98 : decode cX1_sumWeights 98 = .ok (.if_icmp .eq 53, 3) := by decide +kernel
theorem dX1_sumWeights_101 : decode cX1_sumWeights 101 = .ok (.aload_n 0, 1) := by decide +kernel
theorem dX1_sumWeights_102 : decode cX1_sumWeights 102 = .ok (.getfield 17, 3) := by decide +kernel
theorem dX1_sumWeights_105 : decode cX1_sumWeights 105 = .ok (.iload_n 2, 1) := by decide +kernel
theorem dX1_sumWeights_106 : decode cX1_sumWeights 106 = .ok (.iaload, 1) := by decide +kernel
theorem dX1_sumWeights_107 : decode cX1_sumWeights 107 = .ok (.aload_n 0, 1) := by decide +kernel
theorem dX1_sumWeights_108 : decode cX1_sumWeights 108 = .ok (.getfield 17, 3) := by decide +kernel
theorem dX1_sumWeights_111 : decode cX1_sumWeights 111 = .ok (.iload_n 3, 1) := by decide +kernel
theorem dX1_sumWeights_112 : decode cX1_sumWeights 112 = .ok (.iaload, 1) := by decide +kernel
theorem dX1_sumWeights_113 : decode cX1_sumWeights 113 = .ok (.if_icmp .eq 38, 3) := by decide +kernel
theorem dX1_sumWeights_116 : decode cX1_sumWeights 116 = .ok (.aload_n 0, 1) := by decide +kernel
theorem dX1_sumWeights_117 : decode cX1_sumWeights 117 = .ok (.getfield 20, 3) := by decide +kernel
theorem dX1_sumWeights_120 : decode cX1_sumWeights 120 = .ok (.aload_n 0, 1) := by decide +kernel
theorem dX1_sumWeights_121 : decode cX1_sumWeights 121 = .ok (.getfield 17, 3) := by decide +kernel
theorem dX1_sumWeights_124 : decode cX1_sumWeights 124 = .ok (.iload_n 2, 1) := by decide +kernel
theorem dX1_sumWeights_125 : decode cX1_sumWeights 125 = .ok (.iaload, 1) := by decide +kernel
theorem dX1_sumWeights_126 : decode cX1_sumWeights 126 = .ok (.bipush 9, 2) := by decide +kernel
theorem dX1_sumWeights_128 : decode cX1_sumWeights 128 = .ok (.imul, 1) := by decide +kernel
theorem dX1_sumWeights_129 : decode cX1_sumWeights 129 = .ok (.aload_n 0, 1) := by decide +kernel
theorem dX1_sumWeights_130 : decode cX1_sumWeights 130 = .ok (.getfield 17, 3) := by decide +kernel
theorem dX1_sumWeights_133 : decode cX1_sumWeights 133 = .ok (.iload_n 3, 1) := by decide +kernel
theorem dX1_sumWeights_134 : decode cX1_sumWeights 134 = .ok (.iaload, 1) := by decide +kernel
theorem dX1_sumWeights_135 : decode cX1_sumWeights 135 = .ok (.iadd, 1) := by decide +kernel
theorem dX1_sumWeights_136 : decode cX1_sumWeights 136 = .ok (.dup2, 1) := by decide +kernel
theorem dX1_sumWeights_137 : decode cX1_sumWeights 137 = .ok (.iaload, 1) := by decide +kernel
theorem dX1_sumWeights_138 : decode cX1_sumWeights 138 = .ok (.aload_n 0, 1) := by decide +kernel
theorem dX1_sumWeights_139 : decode cX1_sumWeights 139 = .ok (.getfield 7, 3) := by decide +kernel
theorem dX1_sumWeights_142 : decode cX1_sumWeights 142 = .ok (.iload_n 2, 1) := by decide +kernel
theorem dX1_sumWeights_143 : decode cX1_sumWeights 143 = .ok (.bipush 9, 2) := by decide +kernel
theorem dX1_sumWeights_145 : decode cX1_sumWeights 145 = .ok (.imul, 1) := by decide +kernel
theorem dX1_sumWeights_146 : decode cX1_sumWeights 146 = .ok (.iload_n 3, 1) := by decide +kernel
theorem dX1_sumWeights_147 : decode cX1_sumWeights 147 = .ok (.iadd, 1) := by decide +kernel
theorem dX1_sumWeights_148 : decode cX1_sumWeights 148 = .ok (.iaload, 1) := by decide +kernel
theorem dX1_sumWeights_149 : decode cX1_sumWeights 149 = .ok (.iadd, 1) := by decide +kernel
theorem dX1_sumWeights_150 : decode cX1_sumWeights 150 = .ok (.iastore, 1) := by decide +kernel
theorem dX1_sumWeights_151 : decode cX1_sumWeights 151 = .ok (.iinc 3 1, 3) := by decide +kernel
theorem dX1_sumWeights_154 : decode cX1_sumWeights 154 = .ok (.goto (-71), 3) := by decide +kernel
theorem dX1_sumWeights_157 : decode cX1_sumWeights 157 = .ok (.iinc 2 1, 3) := by decide +kernel
theorem dX1_sumWeights_160 : decode cX1_sumWeights 160 = .ok (.goto (-132), 3) := by decide +kernel
theorem dX1_sumWeights_163 : decode cX1_sumWeights 163 = .ok (.return_, 1) := by decide +kernel
abbrev cX1_leastOfGroups : ByteArray := prog_1_method_13_code
def yX1_leastOfGroups : MethodName := ⟨RX1, "leastOfGroups", "()I"⟩
theorem dX1_leastOfGroups_0 : decode cX1_leastOfGroups 0 = .ok (.aload_n 0, 1) := by decide +kernel
theorem dX1_leastOfGroups_1 : decode cX1_leastOfGroups 1 = .ok (.getfield 53, 3) := by decide +kernel
theorem dX1_leastOfGroups_4 : decode cX1_leastOfGroups 4 = .ok (.iconst 2, 1) := by decide +kernel
theorem dX1_leastOfGroups_5 : decode cX1_leastOfGroups 5 = .ok (.if_icmp .ge 6, 3) := by decide +kernel
theorem dX1_leastOfGroups_8 : decode cX1_leastOfGroups 8 = .ok (.bipush (-3), 2) := by decide +kernel
theorem dX1_leastOfGroups_10 : decode cX1_leastOfGroups 10 = .ok (.ireturn, 1) := by decide +kernel
theorem dX1_leastOfGroups_11 : decode cX1_leastOfGroups 11 = .ok (.ldc 66, 2) := by decide +kernel
theorem dX1_leastOfGroups_13 : decode cX1_leastOfGroups 13 = .ok (.istore_n 1, 1) := by decide +kernel
theorem dX1_leastOfGroups_14 : decode cX1_leastOfGroups 14 = .ok (.aload_n 0, 1) := by decide +kernel
theorem dX1_leastOfGroups_15 : decode cX1_leastOfGroups 15 = .ok (.getfield 53, 3) := by decide +kernel
theorem dX1_leastOfGroups_18 : decode cX1_leastOfGroups 18 = .ok (.istore_n 2, 1) := by decide +kernel
theorem dX1_leastOfGroups_19 : decode cX1_leastOfGroups 19 = .ok (.iload_n 2, 1) := by decide +kernel
theorem dX1_leastOfGroups_20 : decode cX1_leastOfGroups 20 = .ok (.iconst 2, 1) := by decide +kernel
theorem dX1_leastOfGroups_21 : decode cX1_leastOfGroups 21 = .ok (.if_icmp .lt 26, 3) := by decide +kernel
theorem dX1_leastOfGroups_24 : decode cX1_leastOfGroups 24 = .ok (.aload_n 0, 1) := by decide +kernel
theorem dX1_leastOfGroups_25 : decode cX1_leastOfGroups 25 = .ok (.iload_n 2, 1) := by decide +kernel
theorem dX1_leastOfGroups_26 : decode cX1_leastOfGroups 26 = .ok (.invokevirtual 67, 3) := by decide +kernel
theorem dX1_leastOfGroups_29 : decode cX1_leastOfGroups 29 = .ok (.istore_n 3, 1) := by decide +kernel
theorem dX1_leastOfGroups_30 : decode cX1_leastOfGroups 30 = .ok (.iload_n 3, 1) := by decide +kernel
theorem dX1_leastOfGroups_31 : decode cX1_leastOfGroups 31 = .ok (.iload_n 1, 1) := by decide +kernel
theorem dX1_leastOfGroups_32 : decode cX1_leastOfGroups 32 = .ok (.if_icmp .ge 5, 3) := by decide +kernel
theorem dX1_leastOfGroups_35 : decode cX1_leastOfGroups 35 = .ok (.iload_n 3, 1) := by decide +kernel
theorem dX1_leastOfGroups_36 : decode cX1_leastOfGroups 36 = .ok (.istore_n 1, 1) := by decide +kernel
theorem dX1_leastOfGroups_37 : decode cX1_leastOfGroups 37 = .ok (.aload_n 0, 1) := by decide +kernel
theorem dX1_leastOfGroups_38 : decode cX1_leastOfGroups 38 = .ok (.invokevirtual 71, 3) := by decide +kernel
theorem dX1_leastOfGroups_41 : decode cX1_leastOfGroups 41 = .ok (.iinc 2 (-1), 3) := by decide +kernel
theorem dX1_leastOfGroups_44 : decode cX1_leastOfGroups 44 = .ok (.goto (-25), 3) := by decide +kernel
theorem dX1_leastOfGroups_47 : decode cX1_leastOfGroups 47 = .ok (.iload_n 1, 1) := by decide +kernel
theorem dX1_leastOfGroups_48 : decode cX1_leastOfGroups 48 = .ok (.ireturn, 1) := by decide +kernel
abbrev cX1_phase : ByteArray := prog_1_method_10_code
def yX1_phase : MethodName := ⟨RX1, "phase", "(I)I"⟩
theorem dX1_phase_0 : decode cX1_phase 0 = .ok (.iconst 0, 1) := by decide +kernel
theorem dX1_phase_1 : decode cX1_phase 1 = .ok (.istore_n 2, 1) := by decide +kernel
theorem dX1_phase_2 : decode cX1_phase 2 = .ok (.iload_n 2, 1) := by decide +kernel
theorem dX1_phase_3 : decode cX1_phase 3 = .ok (.aload_n 0, 1) := by decide +kernel
theorem dX1_phase_4 : decode cX1_phase 4 = .ok (.getfield 41, 3) := by decide +kernel
theorem dX1_phase_7 : decode cX1_phase 7 = .ok (.if_icmp .ge 23, 3) := by decide +kernel
theorem dX1_phase_10 : decode cX1_phase 10 = .ok (.aload_n 0, 1) := by decide +kernel
theorem dX1_phase_11 : decode cX1_phase 11 = .ok (.getfield 26, 3) := by decide +kernel
theorem dX1_phase_14 : decode cX1_phase 14 = .ok (.iload_n 2, 1) := by decide +kernel
theorem dX1_phase_15 : decode cX1_phase 15 = .ok (.iconst 0, 1) := by decide +kernel
theorem dX1_phase_16 : decode cX1_phase 16 = .ok (.bastore, 1) := by decide +kernel
theorem dX1_phase_17 : decode cX1_phase 17 = .ok (.aload_n 0, 1) := by decide +kernel
theorem dX1_phase_18 : decode cX1_phase 18 = .ok (.getfield 29, 3) := by decide +kernel
theorem dX1_phase_21 : decode cX1_phase 21 = .ok (.iload_n 2, 1) := by decide +kernel
theorem dX1_phase_22 : decode cX1_phase 22 = .ok (.iconst 0, 1) := by decide +kernel
theorem dX1_phase_23 : decode cX1_phase 23 = .ok (.iastore, 1) := by decide +kernel
theorem dX1_phase_24 : decode cX1_phase 24 = .ok (.iinc 2 1, 3) := by decide +kernel
theorem dX1_phase_27 : decode cX1_phase 27 = .ok (.goto (-25), 3) := by decide +kernel
theorem dX1_phase_30 : decode cX1_phase 30 = .ok (.aload_n 0, 1) := by decide +kernel
theorem dX1_phase_31 : decode cX1_phase 31 = .ok (.iconst (-1), 1) := by decide +kernel
theorem dX1_phase_32 : decode cX1_phase 32 = .ok (.putfield 56, 3) := by decide +kernel
theorem dX1_phase_35 : decode cX1_phase 35 = .ok (.iconst 0, 1) := by decide +kernel
theorem dX1_phase_36 : decode cX1_phase 36 = .ok (.istore_n 2, 1) := by decide +kernel
theorem dX1_phase_37 : decode cX1_phase 37 = .ok (.iload_n 2, 1) := by decide +kernel
theorem dX1_phase_38 : decode cX1_phase 38 = .ok (.iload_n 1, 1) := by decide +kernel
theorem dX1_phase_39 : decode cX1_phase 39 = .ok (.if_icmp .ge 92, 3) := by decide +kernel
theorem dX1_phase_42 : decode cX1_phase 42 = .ok (.aload_n 0, 1) := by decide +kernel
theorem dX1_phase_43 : decode cX1_phase 43 = .ok (.aload_n 0, 1) := by decide +kernel
theorem dX1_phase_44 : decode cX1_phase 44 = .ok (.getfield 56, 3) := by decide +kernel
theorem dX1_phase_47 : decode cX1_phase 47 = .ok (.putfield 59, 3) := by decide +kernel
theorem dX1_phase_50 : decode cX1_phase 50 = .ok (.aload_n 0, 1) := by decide +kernel
theorem dX1_phase_51 : decode cX1_phase 51 = .ok (.aload_n 0, 1) := by decide +kernel
theorem dX1_phase_52 : decode cX1_phase 52 = .ok (.invokevirtual 62, 3) := by decide +kernel
theorem dX1_phase_55 : decode cX1_phase 55 = .ok (.putfield 56, 3) := by decide +kernel
theorem dX1_phase_58 : decode cX1_phase 58 = .ok (.aload_n 0, 1) := by decide +kernel
theorem dX1_phase_59 : decode cX1_phase 59 = .ok (.getfield 26, 3) := by decide +kernel
theorem dX1_phase_62 : decode cX1_phase 62 = .ok (.aload_n 0, 1) := by decide +kernel
theorem dX1_phase_63 : decode cX1_phase 63 = .ok (.getfield 56, 3) := by decide +kernel
theorem dX1_phase_66 : decode cX1_phase 66 = .ok (.iconst 1, 1) := by decide +kernel
theorem dX1_phase_67 : decode cX1_phase 67 = .ok (.bastore, 1) := by decide +kernel
theorem dX1_phase_68 : decode cX1_phase 68 = .ok (.iconst 0, 1) := by decide +kernel
theorem dX1_phase_69 : decode cX1_phase 69 = .ok (.istore_n 3, 1) := by decide +kernel
theorem dX1_phase_70 : decode cX1_phase 70 = .ok (.iload_n 3, 1) := by decide +kernel
theorem dX1_phase_71 : decode cX1_phase 71 = .ok (.aload_n 0, 1) := by decide +kernel
theorem dX1_phase_72 : decode cX1_phase 72 = .ok (.getfield 41, 3) := by decide +kernel
theorem dX1_phase_75 : decode cX1_phase 75 = .ok (.if_icmp .ge 50, 3) := by decide +kernel
theorem dX1_phase_78 : decode cX1_phase 78 = .ok (.aload_n 0, 1) := by decide +kernel
theorem dX1_phase_79 : decode cX1_phase 79 = .ok (.getfield 23, 3) := by decide +kernel
theorem dX1_phase_82 : decode cX1_phase 82 = .ok (.iload_n 3, 1) := by decide +kernel
theorem dX1_phase_83 : decode cX1_phase 83 = .ok (.baload, 1) := by decide +kernel
theorem dX1_phase_84 : decode cX1_phase 84 = .ok (.ifCond .eq 35, 3) := by decide +kernel
theorem dX1_phase_87 : decode cX1_phase 87 = .ok (.aload_n 0, 1) := by decide +kernel
theorem dX1_phase_88 : decode cX1_phase 88 = .ok (.getfield 26, 3) := by decide +kernel
theorem dX1_phase_91 : decode cX1_phase 91 = .ok (.iload_n 3, 1) := by decide +kernel
theorem dX1_phase_92 : decode cX1_phase 92 = .ok (.baload, 1) := by decide +kernel
theorem dX1_phase_93 : decode cX1_phase 93 = .ok (.ifCond .ne 26, 3) := by decide +kernel
theorem dX1_phase_96 : decode cX1_phase 96 = .ok (.aload_n 0, 1) := by decide +kernel
theorem dX1_phase_97 : decode cX1_phase 97 = .ok (.getfield 29, 3) := by decide +kernel
theorem dX1_phase_100 : decode cX1_phase 100 = .ok (.iload_n 3, 1) := by decide +kernel
theorem dX1_phase_101 : decode cX1_phase 101 = .ok (.dup2, 1) := by decide +kernel
theorem dX1_phase_102 : decode cX1_phase 102 = .ok (.iaload, 1) := by decide +kernel
theorem dX1_phase_103 : decode cX1_phase 103 = .ok (.aload_n 0, 1) := by decide +kernel
theorem dX1_phase_104 : decode cX1_phase 104 = .ok (.getfield 20, 3) := by decide +kernel
theorem dX1_phase_107 : decode cX1_phase 107 = .ok (.aload_n 0, 1) := by decide +kernel
theorem dX1_phase_108 : decode cX1_phase 108 = .ok (.getfield 56, 3) := by decide +kernel
theorem dX1_phase_111 : decode cX1_phase 111 = .ok (.bipush 9, 2) := by decide +kernel
theorem dX1_phase_113 : decode cX1_phase 113 = .ok (.imul, 1) := by decide +kernel
theorem dX1_phase_114 : decode cX1_phase 114 = .ok (.iload_n 3, 1) := by decide +kernel
theorem dX1_phase_115 : decode cX1_phase 115 = .ok (.iadd, 1) := by decide +kernel
theorem dX1_phase_116 : decode cX1_phase 116 = .ok (.iaload, 1) := by decide +kernel
theorem dX1_phase_117 : decode cX1_phase 117 = .ok (.iadd, 1) := by decide +kernel
theorem dX1_phase_118 : decode cX1_phase 118 = .ok (.iastore, 1) := by decide +kernel
theorem dX1_phase_119 : decode cX1_phase 119 = .ok (.iinc 3 1, 3) := by decide +kernel
theorem dX1_phase_122 : decode cX1_phase 122 = .ok (.goto (-52), 3) := by decide +kernel
theorem dX1_phase_125 : decode cX1_phase 125 = .ok (.iinc 2 1, 3) := by decide +kernel
theorem dX1_phase_128 : decode cX1_phase 128 = .ok (.goto (-91), 3) := by decide +kernel
theorem dX1_phase_131 : decode cX1_phase 131 = .ok (.aload_n 0, 1) := by decide +kernel
theorem dX1_phase_132 : decode cX1_phase 132 = .ok (.getfield 29, 3) := by decide +kernel
theorem dX1_phase_135 : decode cX1_phase 135 = .ok (.aload_n 0, 1) := by decide +kernel
theorem dX1_phase_136 : decode cX1_phase 136 = .ok (.getfield 56, 3) := by decide +kernel
theorem dX1_phase_139 : decode cX1_phase 139 = .ok (.iaload, 1) := by decide +kernel
theorem dX1_phase_140 : decode cX1_phase 140 = .ok (.ireturn, 1) := by decide +kernel
abbrev cX1_mostHanging : ByteArray := prog_1_method_11_code
def yX1_mostHanging : MethodName := ⟨RX1, "mostHanging", "()I"⟩
theorem dX1_mostHanging_0 : decode cX1_mostHanging 0 = .ok (.iconst (-1), 1) := by decide +kernel
theorem dX1_mostHanging_1 : decode cX1_mostHanging 1 = .ok (.istore_n 1, 1) := by decide +kernel
theorem dX1_mostHanging_2 : decode cX1_mostHanging 2 = .ok (.iconst 0, 1) := by decide +kernel
theorem dX1_mostHanging_3 : decode cX1_mostHanging 3 = .ok (.istore_n 2, 1) := by decide +kernel
theorem dX1_mostHanging_4 : decode cX1_mostHanging 4 = .ok (.iload_n 2, 1) := by decide +kernel
theorem dX1_mostHanging_5 : decode cX1_mostHanging 5 = .ok (.aload_n 0, 1) := by decide +kernel
theorem dX1_mostHanging_6 : decode cX1_mostHanging 6 = .ok (.getfield 41, 3) := by decide +kernel
theorem dX1_mostHanging_9 : decode cX1_mostHanging 9 = .ok (.if_icmp .ge 48, 3) := by decide +kernel
theorem dX1_mostHanging_12 : decode cX1_mostHanging 12 = .ok (.aload_n 0, 1) := by decide +kernel
theorem dX1_mostHanging_13 : decode cX1_mostHanging 13 = .ok (.getfield 23, 3) := by decide +kernel
theorem dX1_mostHanging_16 : decode cX1_mostHanging 16 = .ok (.iload_n 2, 1) := by decide +kernel
theorem dX1_mostHanging_17 : decode cX1_mostHanging 17 = .ok (.baload, 1) := by decide +kernel
theorem dX1_mostHanging_18 : decode cX1_mostHanging 18 = .ok (.ifCond .eq 33, 3) := by decide +kernel
theorem dX1_mostHanging_21 : decode cX1_mostHanging 21 = .ok (.aload_n 0, 1) := by decide +kernel
theorem dX1_mostHanging_22 : decode cX1_mostHanging 22 = .ok (.getfield 26, 3) := by decide +kernel
theorem dX1_mostHanging_25 : decode cX1_mostHanging 25 = .ok (.iload_n 2, 1) := by decide +kernel
theorem dX1_mostHanging_26 : decode cX1_mostHanging 26 = .ok (.baload, 1) := by decide +kernel
theorem dX1_mostHanging_27 : decode cX1_mostHanging 27 = .ok (.ifCond .ne 24, 3) := by decide +kernel
theorem dX1_mostHanging_30 : decode cX1_mostHanging 30 = .ok (.iload_n 1, 1) := by decide +kernel
theorem dX1_mostHanging_31 : decode cX1_mostHanging 31 = .ok (.ifCond .lt 18, 3) := by decide +kernel
theorem dX1_mostHanging_34 : decode cX1_mostHanging 34 = .ok (.aload_n 0, 1) := by decide +kernel
theorem dX1_mostHanging_35 : decode cX1_mostHanging 35 = .ok (.getfield 29, 3) := by decide +kernel
theorem dX1_mostHanging_38 : decode cX1_mostHanging 38 = .ok (.iload_n 2, 1) := by decide +kernel
theorem dX1_mostHanging_39 : decode cX1_mostHanging 39 = .ok (.iaload, 1) := by decide +kernel
theorem dX1_mostHanging_40 : decode cX1_mostHanging 40 = .ok (.aload_n 0, 1) := by decide +kernel
theorem dX1_mostHanging_41 : decode cX1_mostHanging 41 = .ok (.getfield 29, 3) := by decide +kernel
theorem dX1_mostHanging_44 : decode cX1_mostHanging 44 = .ok (.iload_n 1, 1) := by decide +kernel
theorem dX1_mostHanging_45 : decode cX1_mostHanging 45 = .ok (.iaload, 1) := by decide +kernel
theorem dX1_mostHanging_46 : decode cX1_mostHanging 46 = .ok (.if_icmp .le 5, 3) := by decide +kernel
theorem dX1_mostHanging_49 : decode cX1_mostHanging 49 = .ok (.iload_n 2, 1) := by decide +kernel
theorem dX1_mostHanging_50 : decode cX1_mostHanging 50 = .ok (.istore_n 1, 1) := by decide +kernel
theorem dX1_mostHanging_51 : decode cX1_mostHanging 51 = .ok (.iinc 2 1, 3) := by decide +kernel
theorem dX1_mostHanging_54 : decode cX1_mostHanging 54 = .ok (.goto (-50), 3) := by decide +kernel
theorem dX1_mostHanging_57 : decode cX1_mostHanging 57 = .ok (.iload_n 1, 1) := by decide +kernel
theorem dX1_mostHanging_58 : decode cX1_mostHanging 58 = .ok (.ifCond .ge 7, 3) := by decide +kernel
theorem dX1_mostHanging_61 : decode cX1_mostHanging 61 = .ok (.iconst 0, 1) := by decide +kernel
theorem dX1_mostHanging_62 : decode cX1_mostHanging 62 = .ok (.goto 4, 3) := by decide +kernel
theorem dX1_mostHanging_65 : decode cX1_mostHanging 65 = .ok (.iload_n 1, 1) := by decide +kernel
theorem dX1_mostHanging_66 : decode cX1_mostHanging 66 = .ok (.ireturn, 1) := by decide +kernel
abbrev cX1_mergeLastTwo : ByteArray := prog_1_method_12_code
def yX1_mergeLastTwo : MethodName := ⟨RX1, "mergeLastTwo", "()V"⟩
theorem dX1_mergeLastTwo_0 : decode cX1_mergeLastTwo 0 = .ok (.iconst 0, 1) := by decide +kernel
theorem dX1_mergeLastTwo_1 : decode cX1_mergeLastTwo 1 = .ok (.istore_n 1, 1) := by decide +kernel
theorem dX1_mergeLastTwo_2 : decode cX1_mergeLastTwo 2 = .ok (.iload_n 1, 1) := by decide +kernel
theorem dX1_mergeLastTwo_3 : decode cX1_mergeLastTwo 3 = .ok (.aload_n 0, 1) := by decide +kernel
theorem dX1_mergeLastTwo_4 : decode cX1_mergeLastTwo 4 = .ok (.getfield 41, 3) := by decide +kernel
theorem dX1_mergeLastTwo_7 : decode cX1_mergeLastTwo 7 = .ok (.if_icmp .ge 68, 3) := by decide +kernel
theorem dX1_mergeLastTwo_10 : decode cX1_mergeLastTwo 10 = .ok (.aload_n 0, 1) := by decide +kernel
theorem dX1_mergeLastTwo_11 : decode cX1_mergeLastTwo 11 = .ok (.getfield 20, 3) := by decide +kernel
theorem dX1_mergeLastTwo_14 : decode cX1_mergeLastTwo 14 = .ok (.aload_n 0, 1) := by decide +kernel
theorem dX1_mergeLastTwo_15 : decode cX1_mergeLastTwo 15 = .ok (.getfield 59, 3) := by decide +kernel
theorem dX1_mergeLastTwo_18 : decode cX1_mergeLastTwo 18 = .ok (.bipush 9, 2) := by decide +kernel
theorem dX1_mergeLastTwo_20 : decode cX1_mergeLastTwo 20 = .ok (.imul, 1) := by decide +kernel
theorem dX1_mergeLastTwo_21 : decode cX1_mergeLastTwo 21 = .ok (.iload_n 1, 1) := by decide +kernel
theorem dX1_mergeLastTwo_22 : decode cX1_mergeLastTwo 22 = .ok (.iadd, 1) := by decide +kernel
theorem dX1_mergeLastTwo_23 : decode cX1_mergeLastTwo 23 = .ok (.dup2, 1) := by decide +kernel
theorem dX1_mergeLastTwo_24 : decode cX1_mergeLastTwo 24 = .ok (.iaload, 1) := by decide +kernel
theorem dX1_mergeLastTwo_25 : decode cX1_mergeLastTwo 25 = .ok (.aload_n 0, 1) := by decide +kernel
theorem dX1_mergeLastTwo_26 : decode cX1_mergeLastTwo 26 = .ok (.getfield 20, 3) := by decide +kernel
theorem dX1_mergeLastTwo_29 : decode cX1_mergeLastTwo 29 = .ok (.aload_n 0, 1) := by decide +kernel
theorem dX1_mergeLastTwo_30 : decode cX1_mergeLastTwo 30 = .ok (.getfield 56, 3) := by decide +kernel
theorem dX1_mergeLastTwo_33 : decode cX1_mergeLastTwo 33 = .ok (.bipush 9, 2) := by decide +kernel
theorem dX1_mergeLastTwo_35 : decode cX1_mergeLastTwo 35 = .ok (.imul, 1) := by decide +kernel
theorem dX1_mergeLastTwo_36 : decode cX1_mergeLastTwo 36 = .ok (.iload_n 1, 1) := by decide +kernel
theorem dX1_mergeLastTwo_37 : decode cX1_mergeLastTwo 37 = .ok (.iadd, 1) := by decide +kernel
theorem dX1_mergeLastTwo_38 : decode cX1_mergeLastTwo 38 = .ok (.iaload, 1) := by decide +kernel
theorem dX1_mergeLastTwo_39 : decode cX1_mergeLastTwo 39 = .ok (.iadd, 1) := by decide +kernel
theorem dX1_mergeLastTwo_40 : decode cX1_mergeLastTwo 40 = .ok (.iastore, 1) := by decide +kernel
theorem dX1_mergeLastTwo_41 : decode cX1_mergeLastTwo 41 = .ok (.aload_n 0, 1) := by decide +kernel
theorem dX1_mergeLastTwo_42 : decode cX1_mergeLastTwo 42 = .ok (.getfield 20, 3) := by decide +kernel
theorem dX1_mergeLastTwo_45 : decode cX1_mergeLastTwo 45 = .ok (.iload_n 1, 1) := by decide +kernel
theorem dX1_mergeLastTwo_46 : decode cX1_mergeLastTwo 46 = .ok (.bipush 9, 2) := by decide +kernel
theorem dX1_mergeLastTwo_48 : decode cX1_mergeLastTwo 48 = .ok (.imul, 1) := by decide +kernel
theorem dX1_mergeLastTwo_49 : decode cX1_mergeLastTwo 49 = .ok (.aload_n 0, 1) := by decide +kernel
theorem dX1_mergeLastTwo_50 : decode cX1_mergeLastTwo 50 = .ok (.getfield 59, 3) := by decide +kernel
theorem dX1_mergeLastTwo_53 : decode cX1_mergeLastTwo 53 = .ok (.iadd, 1) := by decide +kernel
theorem dX1_mergeLastTwo_54 : decode cX1_mergeLastTwo 54 = .ok (.aload_n 0, 1) := by decide +kernel
theorem dX1_mergeLastTwo_55 : decode cX1_mergeLastTwo 55 = .ok (.getfield 20, 3) := by decide +kernel
theorem dX1_mergeLastTwo_58 : decode cX1_mergeLastTwo 58 = .ok (.aload_n 0, 1) := by decide +kernel
theorem dX1_mergeLastTwo_59 : decode cX1_mergeLastTwo 59 = .ok (.getfield 59, 3) := by decide +kernel
theorem dX1_mergeLastTwo_62 : decode cX1_mergeLastTwo 62 = .ok (.bipush 9, 2) := by decide +kernel
theorem dX1_mergeLastTwo_64 : decode cX1_mergeLastTwo 64 = .ok (.imul, 1) := by decide +kernel
theorem dX1_mergeLastTwo_65 : decode cX1_mergeLastTwo 65 = .ok (.iload_n 1, 1) := by decide +kernel
theorem dX1_mergeLastTwo_66 : decode cX1_mergeLastTwo 66 = .ok (.iadd, 1) := by decide +kernel
theorem dX1_mergeLastTwo_67 : decode cX1_mergeLastTwo 67 = .ok (.iaload, 1) := by decide +kernel
theorem dX1_mergeLastTwo_68 : decode cX1_mergeLastTwo 68 = .ok (.iastore, 1) := by decide +kernel
theorem dX1_mergeLastTwo_69 : decode cX1_mergeLastTwo 69 = .ok (.iinc 1 1, 3) := by decide +kernel
theorem dX1_mergeLastTwo_72 : decode cX1_mergeLastTwo 72 = .ok (.goto (-70), 3) := by decide +kernel
theorem dX1_mergeLastTwo_75 : decode cX1_mergeLastTwo 75 = .ok (.aload_n 0, 1) := by decide +kernel
theorem dX1_mergeLastTwo_76 : decode cX1_mergeLastTwo 76 = .ok (.getfield 20, 3) := by decide +kernel
theorem dX1_mergeLastTwo_79 : decode cX1_mergeLastTwo 79 = .ok (.aload_n 0, 1) := by decide +kernel
theorem dX1_mergeLastTwo_80 : decode cX1_mergeLastTwo 80 = .ok (.getfield 59, 3) := by decide +kernel
theorem dX1_mergeLastTwo_83 : decode cX1_mergeLastTwo 83 = .ok (.bipush 9, 2) := by decide +kernel
theorem dX1_mergeLastTwo_85 : decode cX1_mergeLastTwo 85 = .ok (.imul, 1) := by decide +kernel
theorem dX1_mergeLastTwo_86 : decode cX1_mergeLastTwo 86 = .ok (.aload_n 0, 1) := by decide +kernel
theorem dX1_mergeLastTwo_87 : decode cX1_mergeLastTwo 87 = .ok (.getfield 59, 3) := by decide +kernel
theorem dX1_mergeLastTwo_90 : decode cX1_mergeLastTwo 90 = .ok (.iadd, 1) := by decide +kernel
theorem dX1_mergeLastTwo_91 : decode cX1_mergeLastTwo 91 = .ok (.iconst 0, 1) := by decide +kernel
theorem dX1_mergeLastTwo_92 : decode cX1_mergeLastTwo 92 = .ok (.iastore, 1) := by decide +kernel
theorem dX1_mergeLastTwo_93 : decode cX1_mergeLastTwo 93 = .ok (.aload_n 0, 1) := by decide +kernel
theorem dX1_mergeLastTwo_94 : decode cX1_mergeLastTwo 94 = .ok (.getfield 23, 3) := by decide +kernel
theorem dX1_mergeLastTwo_97 : decode cX1_mergeLastTwo 97 = .ok (.aload_n 0, 1) := by decide +kernel
theorem dX1_mergeLastTwo_98 : decode cX1_mergeLastTwo 98 = .ok (.getfield 56, 3) := by decide +kernel
theorem dX1_mergeLastTwo_101 : decode cX1_mergeLastTwo 101 = .ok (.iconst 0, 1) := by decide +kernel
theorem dX1_mergeLastTwo_102 : decode cX1_mergeLastTwo 102 = .ok (.bastore, 1) := by decide +kernel
theorem dX1_mergeLastTwo_103 : decode cX1_mergeLastTwo 103 = .ok (.return_, 1) := by decide +kernel
abbrev cX1_smallest : ByteArray := prog_1_method_19_code
def yX1_smallest : MethodName := ⟨RX1, "smallest", "()I"⟩
theorem dX1_smallest_0 : decode cX1_smallest 0 = .ok (.aload_n 0, 1) := by decide +kernel
theorem dX1_smallest_1 : decode cX1_smallest 1 = .ok (.invokevirtual 97, 3) := by decide +kernel
theorem dX1_smallest_4 : decode cX1_smallest 4 = .ok (.istore_n 1, 1) := by decide +kernel
theorem dX1_smallest_5 : decode cX1_smallest 5 = .ok (.iload_n 1, 1) := by decide +kernel
theorem dX1_smallest_6 : decode cX1_smallest 6 = .ok (.bipush (-3), 2) := by decide +kernel
theorem dX1_smallest_8 : decode cX1_smallest 8 = .ok (.if_icmp .ne 6, 3) := by decide +kernel
theorem dX1_smallest_11 : decode cX1_smallest 11 = .ok (.bipush (-3), 2) := by decide +kernel
theorem dX1_smallest_13 : decode cX1_smallest 13 = .ok (.ireturn, 1) := by decide +kernel
theorem dX1_smallest_14 : decode cX1_smallest 14 = .ok (.iconst 1, 1) := by decide +kernel
theorem dX1_smallest_15 : decode cX1_smallest 15 = .ok (.istore_n 2, 1) := by decide +kernel
theorem dX1_smallest_16 : decode cX1_smallest 16 = .ok (.iconst 0, 1) := by decide +kernel
theorem dX1_smallest_17 : decode cX1_smallest 17 = .ok (.istore_n 3, 1) := by decide +kernel
theorem dX1_smallest_18 : decode cX1_smallest 18 = .ok (.aload_n 0, 1) := by decide +kernel
theorem dX1_smallest_19 : decode cX1_smallest 19 = .ok (.getfield 41, 3) := by decide +kernel
theorem dX1_smallest_22 : decode cX1_smallest 22 = .ok (.iconst 1, 1) := by decide +kernel
theorem dX1_smallest_23 : decode cX1_smallest 23 = .ok (.isub, 1) := by decide +kernel
theorem dX1_smallest_24 : decode cX1_smallest 24 = .ok (.istore 4, 2) := by decide +kernel
theorem dX1_smallest_26 : decode cX1_smallest 26 = .ok (.iload 4, 2) := by decide +kernel
theorem dX1_smallest_28 : decode cX1_smallest 28 = .ok (.iconst 1, 1) := by decide +kernel
theorem dX1_smallest_29 : decode cX1_smallest 29 = .ok (.if_icmp .lt 45, 3) := by decide +kernel
theorem dX1_smallest_32 : decode cX1_smallest 32 = .ok (.aload_n 0, 1) := by decide +kernel
theorem dX1_smallest_33 : decode cX1_smallest 33 = .ok (.iload_n 2, 1) := by decide +kernel
theorem dX1_smallest_34 : decode cX1_smallest 34 = .ok (.iconst 1, 1) := by decide +kernel
theorem dX1_smallest_35 : decode cX1_smallest 35 = .ok (.iload 4, 2) := by decide +kernel
theorem dX1_smallest_37 : decode cX1_smallest 37 = .ok (.ishl, 1) := by decide +kernel
theorem dX1_smallest_38 : decode cX1_smallest 38 = .ok (.ior, 1) := by decide +kernel
theorem dX1_smallest_39 : decode cX1_smallest 39 = .ok (.iload_n 3, 1) := by decide +kernel
theorem dX1_smallest_40 : decode cX1_smallest 40 = .ok (.invokevirtual 100, 3) := by decide +kernel
theorem dX1_smallest_43 : decode cX1_smallest 43 = .ok (.istore 5, 2) := by decide +kernel
theorem dX1_smallest_45 : decode cX1_smallest 45 = .ok (.iload 5, 2) := by decide +kernel
theorem dX1_smallest_47 : decode cX1_smallest 47 = .ok (.iload_n 1, 1) := by decide +kernel
theorem dX1_smallest_48 : decode cX1_smallest 48 = .ok (.if_icmp .ne 13, 3) := by decide +kernel
theorem dX1_smallest_51 : decode cX1_smallest 51 = .ok (.iload_n 2, 1) := by decide +kernel
theorem dX1_smallest_52 : decode cX1_smallest 52 = .ok (.iconst 1, 1) := by decide +kernel
theorem dX1_smallest_53 : decode cX1_smallest 53 = .ok (.iload 4, 2) := by decide +kernel
theorem dX1_smallest_55 : decode cX1_smallest 55 = .ok (.ishl, 1) := by decide +kernel
theorem dX1_smallest_56 : decode cX1_smallest 56 = .ok (.ior, 1) := by decide +kernel
theorem dX1_smallest_57 : decode cX1_smallest 57 = .ok (.istore_n 2, 1) := by decide +kernel
theorem dX1_smallest_58 : decode cX1_smallest 58 = .ok (.goto 10, 3) := by decide +kernel
theorem dX1_smallest_61 : decode cX1_smallest 61 = .ok (.iload_n 3, 1) := by decide +kernel
theorem dX1_smallest_62 : decode cX1_smallest 62 = .ok (.iconst 1, 1) := by decide +kernel
theorem dX1_smallest_63 : decode cX1_smallest 63 = .ok (.iload 4, 2) := by decide +kernel
theorem dX1_smallest_65 : decode cX1_smallest 65 = .ok (.ishl, 1) := by decide +kernel
theorem dX1_smallest_66 : decode cX1_smallest 66 = .ok (.ior, 1) := by decide +kernel
theorem dX1_smallest_67 : decode cX1_smallest 67 = .ok (.istore_n 3, 1) := by decide +kernel
theorem dX1_smallest_68 : decode cX1_smallest 68 = .ok (.iinc 4 (-1), 3) := by decide +kernel
theorem dX1_smallest_71 : decode cX1_smallest 71 = .ok (.goto (-45), 3) := by decide +kernel
theorem dX1_smallest_74 : decode cX1_smallest 74 = .ok (.iload_n 3, 1) := by decide +kernel
theorem dX1_smallest_75 : decode cX1_smallest 75 = .ok (.ireturn, 1) := by decide +kernel
end
section
set_option maxRecDepth 100000
abbrev cX1_leastWith : ByteArray := prog_1_method_18_code
def yX1_leastWith : MethodName := ⟨RX1, "leastWith", "(II)I"⟩
theorem dX1_leastWith_0 : decode cX1_leastWith 0 = .ok (.aload_n 0, 1) := by decide +kernel
theorem dX1_leastWith_1 : decode cX1_leastWith 1 = .ok (.iconst (-1), 1) := by decide +kernel
theorem dX1_leastWith_2 : decode cX1_leastWith 2 = .ok (.invokevirtual 81, 3) := by decide +kernel
theorem dX1_leastWith_5 : decode cX1_leastWith 5 = .ok (.aload_n 0, 1) := by decide +kernel
theorem dX1_leastWith_6 : decode cX1_leastWith 6 = .ok (.iload_n 1, 1) := by decide +kernel
theorem dX1_leastWith_7 : decode cX1_leastWith 7 = .ok (.invokevirtual 91, 3) := by decide +kernel
theorem dX1_leastWith_10 : decode cX1_leastWith 10 = .ok (.aload_n 0, 1) := by decide +kernel
theorem dX1_leastWith_11 : decode cX1_leastWith 11 = .ok (.iload_n 2, 1) := by decide +kernel
theorem dX1_leastWith_12 : decode cX1_leastWith 12 = .ok (.invokevirtual 91, 3) := by decide +kernel
theorem dX1_leastWith_15 : decode cX1_leastWith 15 = .ok (.aload_n 0, 1) := by decide +kernel
theorem dX1_leastWith_16 : decode cX1_leastWith 16 = .ok (.iconst (-1), 1) := by decide +kernel
theorem dX1_leastWith_17 : decode cX1_leastWith 17 = .ok (.invokevirtual 85, 3) := by decide +kernel
theorem dX1_leastWith_20 : decode cX1_leastWith 20 = .ok (.iload_n 2, 1) := by decide +kernel
theorem dX1_leastWith_21 : decode cX1_leastWith 21 = .ok (.ifCond .ne 8, 3) := by decide +kernel
theorem dX1_leastWith_24 : decode cX1_leastWith 24 = .ok (.aload_n 0, 1) := by decide +kernel
theorem dX1_leastWith_25 : decode cX1_leastWith 25 = .ok (.invokevirtual 88, 3) := by decide +kernel
theorem dX1_leastWith_28 : decode cX1_leastWith 28 = .ok (.ireturn, 1) := by decide +kernel
theorem dX1_leastWith_29 : decode cX1_leastWith 29 = .ok (.iconst 0, 1) := by decide +kernel
theorem dX1_leastWith_30 : decode cX1_leastWith 30 = .ok (.istore_n 3, 1) := by decide +kernel
theorem dX1_leastWith_31 : decode cX1_leastWith 31 = .ok (.iload_n 3, 1) := by decide +kernel
theorem dX1_leastWith_32 : decode cX1_leastWith 32 = .ok (.bipush 8, 2) := by decide +kernel
theorem dX1_leastWith_34 : decode cX1_leastWith 34 = .ok (.if_icmp .ge 17, 3) := by decide +kernel
theorem dX1_leastWith_37 : decode cX1_leastWith 37 = .ok (.iload_n 2, 1) := by decide +kernel
theorem dX1_leastWith_38 : decode cX1_leastWith 38 = .ok (.iload_n 3, 1) := by decide +kernel
theorem dX1_leastWith_39 : decode cX1_leastWith 39 = .ok (.ishr, 1) := by decide +kernel
theorem dX1_leastWith_40 : decode cX1_leastWith 40 = .ok (.iconst 1, 1) := by decide +kernel
theorem dX1_leastWith_41 : decode cX1_leastWith 41 = .ok (.iand, 1) := by decide +kernel
theorem dX1_leastWith_42 : decode cX1_leastWith 42 = .ok (.ifCond .ne 9, 3) := by decide +kernel
theorem dX1_leastWith_45 : decode cX1_leastWith 45 = .ok (.iinc 3 1, 3) := by decide +kernel
theorem dX1_leastWith_48 : decode cX1_leastWith 48 = .ok (.goto (-17), 3) := by decide +kernel
theorem dX1_leastWith_51 : decode cX1_leastWith 51 = .ok (.aload_n 0, 1) := by decide +kernel
theorem dX1_leastWith_52 : decode cX1_leastWith 52 = .ok (.iconst 0, 1) := by decide +kernel
theorem dX1_leastWith_53 : decode cX1_leastWith 53 = .ok (.iload_n 3, 1) := by decide +kernel
theorem dX1_leastWith_54 : decode cX1_leastWith 54 = .ok (.invokevirtual 94, 3) := by decide +kernel
theorem dX1_leastWith_57 : decode cX1_leastWith 57 = .ok (.ireturn, 1) := by decide +kernel
abbrev cX1_mergeSet : ByteArray := prog_1_method_8_code
def yX1_mergeSet : MethodName := ⟨RX1, "mergeSet", "(I)V"⟩
theorem dX1_mergeSet_0 : decode cX1_mergeSet 0 = .ok (.iconst (-1), 1) := by decide +kernel
theorem dX1_mergeSet_1 : decode cX1_mergeSet 1 = .ok (.istore_n 2, 1) := by decide +kernel
theorem dX1_mergeSet_2 : decode cX1_mergeSet 2 = .ok (.iconst 0, 1) := by decide +kernel
theorem dX1_mergeSet_3 : decode cX1_mergeSet 3 = .ok (.istore_n 3, 1) := by decide +kernel
theorem dX1_mergeSet_4 : decode cX1_mergeSet 4 = .ok (.iload_n 3, 1) := by decide +kernel
theorem dX1_mergeSet_5 : decode cX1_mergeSet 5 = .ok (.aload_n 0, 1) := by decide +kernel
theorem dX1_mergeSet_6 : decode cX1_mergeSet 6 = .ok (.getfield 41, 3) := by decide +kernel
theorem dX1_mergeSet_9 : decode cX1_mergeSet 9 = .ok (.if_icmp .ge 43, 3) := by decide +kernel
theorem dX1_mergeSet_12 : decode cX1_mergeSet 12 = .ok (.iload_n 1, 1) := by decide +kernel
theorem dX1_mergeSet_13 : decode cX1_mergeSet 13 = .ok (.iload_n 3, 1) := by decide +kernel
theorem dX1_mergeSet_14 : decode cX1_mergeSet 14 = .ok (.ishr, 1) := by decide +kernel
theorem dX1_mergeSet_15 : decode cX1_mergeSet 15 = .ok (.iconst 1, 1) := by decide +kernel
theorem dX1_mergeSet_16 : decode cX1_mergeSet 16 = .ok (.iand, 1) := by decide +kernel
theorem dX1_mergeSet_17 : decode cX1_mergeSet 17 = .ok (.iconst 1, 1) := by decide +kernel
theorem dX1_mergeSet_18 : decode cX1_mergeSet 18 = .ok (.if_icmp .ne 28, 3) := by decide +kernel
theorem dX1_mergeSet_21 : decode cX1_mergeSet 21 = .ok (.iload_n 2, 1) := by decide +kernel
theorem dX1_mergeSet_22 : decode cX1_mergeSet 22 = .ok (.ifCond .ge 8, 3) := by decide +kernel
theorem dX1_mergeSet_25 : decode cX1_mergeSet 25 = .ok (.iload_n 3, 1) := by decide +kernel
theorem dX1_mergeSet_26 : decode cX1_mergeSet 26 = .ok (.istore_n 2, 1) := by decide +kernel
theorem dX1_mergeSet_27 : decode cX1_mergeSet 27 = .ok (.goto 19, 3) := by decide +kernel
theorem dX1_mergeSet_30 : decode cX1_mergeSet 30 = .ok (.aload_n 0, 1) := by decide +kernel
theorem dX1_mergeSet_31 : decode cX1_mergeSet 31 = .ok (.aload_n 0, 1) := by decide +kernel
theorem dX1_mergeSet_32 : decode cX1_mergeSet 32 = .ok (.getfield 17, 3) := by decide +kernel
theorem dX1_mergeSet_35 : decode cX1_mergeSet 35 = .ok (.iload_n 2, 1) := by decide +kernel
theorem dX1_mergeSet_36 : decode cX1_mergeSet 36 = .ok (.iaload, 1) := by decide +kernel
theorem dX1_mergeSet_37 : decode cX1_mergeSet 37 = .ok (.aload_n 0, 1) := by decide +kernel
theorem dX1_mergeSet_38 : decode cX1_mergeSet 38 = .ok (.getfield 17, 3) := by decide +kernel
theorem dX1_mergeSet_41 : decode cX1_mergeSet 41 = .ok (.iload_n 3, 1) := by decide +kernel
theorem dX1_mergeSet_42 : decode cX1_mergeSet 42 = .ok (.iaload, 1) := by decide +kernel
theorem dX1_mergeSet_43 : decode cX1_mergeSet 43 = .ok (.invokevirtual 49, 3) := by decide +kernel
theorem dX1_mergeSet_46 : decode cX1_mergeSet 46 = .ok (.iinc 3 1, 3) := by decide +kernel
theorem dX1_mergeSet_49 : decode cX1_mergeSet 49 = .ok (.goto (-45), 3) := by decide +kernel
theorem dX1_mergeSet_52 : decode cX1_mergeSet 52 = .ok (.return_, 1) := by decide +kernel
abbrev cX1_leastBetween : ByteArray := prog_1_method_16_code
def yX1_leastBetween : MethodName := ⟨RX1, "leastBetween", "(II)I"⟩
theorem dX1_leastBetween_0 : decode cX1_leastBetween 0 = .ok (.aload_n 0, 1) := by decide +kernel
theorem dX1_leastBetween_1 : decode cX1_leastBetween 1 = .ok (.getfield 17, 3) := by decide +kernel
theorem dX1_leastBetween_4 : decode cX1_leastBetween 4 = .ok (.iload_n 1, 1) := by decide +kernel
theorem dX1_leastBetween_5 : decode cX1_leastBetween 5 = .ok (.iaload, 1) := by decide +kernel
theorem dX1_leastBetween_6 : decode cX1_leastBetween 6 = .ok (.istore_n 3, 1) := by decide +kernel
theorem dX1_leastBetween_7 : decode cX1_leastBetween 7 = .ok (.aload_n 0, 1) := by decide +kernel
theorem dX1_leastBetween_8 : decode cX1_leastBetween 8 = .ok (.getfield 17, 3) := by decide +kernel
theorem dX1_leastBetween_11 : decode cX1_leastBetween 11 = .ok (.iload_n 2, 1) := by decide +kernel
theorem dX1_leastBetween_12 : decode cX1_leastBetween 12 = .ok (.iaload, 1) := by decide +kernel
theorem dX1_leastBetween_13 : decode cX1_leastBetween 13 = .ok (.istore 4, 2) := by decide +kernel
theorem dX1_leastBetween_15 : decode cX1_leastBetween 15 = .ok (.iload_n 3, 1) := by decide +kernel
theorem dX1_leastBetween_16 : decode cX1_leastBetween 16 = .ok (.iload 4, 2) := by decide +kernel
theorem dX1_leastBetween_18 : decode cX1_leastBetween 18 = .ok (.if_icmp .ne 6, 3) := by decide +kernel
theorem dX1_leastBetween_21 : decode cX1_leastBetween 21 = .ok (.bipush (-3), 2) := by decide +kernel
theorem dX1_leastBetween_23 : decode cX1_leastBetween 23 = .ok (.ireturn, 1) := by decide +kernel
theorem dX1_leastBetween_24 : decode cX1_leastBetween 24 = .ok (.iconst 0, 1) := by decide +kernel
theorem dX1_leastBetween_25 : decode cX1_leastBetween 25 = .ok (.istore 5, 2) := by decide +kernel
theorem dX1_leastBetween_27 : decode cX1_leastBetween 27 = .ok (.iload 5, 2) := by decide +kernel
theorem dX1_leastBetween_29 : decode cX1_leastBetween 29 = .ok (.bipush 81, 2) := by decide +kernel
theorem dX1_leastBetween_31 : decode cX1_leastBetween 31 = .ok (.if_icmp .ge 23, 3) := by decide +kernel
theorem dX1_leastBetween_34 : decode cX1_leastBetween 34 = .ok (.aload_n 0, 1) := by decide +kernel
theorem dX1_leastBetween_35 : decode cX1_leastBetween 35 = .ok (.getfield 32, 3) := by decide +kernel
theorem dX1_leastBetween_38 : decode cX1_leastBetween 38 = .ok (.iload 5, 2) := by decide +kernel
theorem dX1_leastBetween_40 : decode cX1_leastBetween 40 = .ok (.aload_n 0, 1) := by decide +kernel
theorem dX1_leastBetween_41 : decode cX1_leastBetween 41 = .ok (.getfield 20, 3) := by decide +kernel
theorem dX1_leastBetween_44 : decode cX1_leastBetween 44 = .ok (.iload 5, 2) := by decide +kernel
theorem dX1_leastBetween_46 : decode cX1_leastBetween 46 = .ok (.iaload, 1) := by decide +kernel
theorem dX1_leastBetween_47 : decode cX1_leastBetween 47 = .ok (.iastore, 1) := by decide +kernel
theorem dX1_leastBetween_48 : decode cX1_leastBetween 48 = .ok (.iinc 5 1, 3) := by decide +kernel
theorem dX1_leastBetween_51 : decode cX1_leastBetween 51 = .ok (.goto (-24), 3) := by decide +kernel
theorem dX1_leastBetween_54 : decode cX1_leastBetween 54 = .ok (.iconst 0, 1) := by decide +kernel
theorem dX1_leastBetween_55 : decode cX1_leastBetween 55 = .ok (.istore 5, 2) := by decide +kernel
theorem dX1_leastBetween_57 : decode cX1_leastBetween 57 = .ok (.aload_n 0, 1) := by decide +kernel
theorem dX1_leastBetween_58 : decode cX1_leastBetween 58 = .ok (.iload_n 3, 1) := by decide +kernel
theorem dX1_leastBetween_59 : decode cX1_leastBetween 59 = .ok (.iload 4, 2) := by decide +kernel
theorem dX1_leastBetween_61 : decode cX1_leastBetween 61 = .ok (.invokevirtual 74, 3) := by decide +kernel
theorem dX1_leastBetween_64 : decode cX1_leastBetween 64 = .ok (.istore 6, 2) := by decide +kernel
theorem dX1_leastBetween_66 : decode cX1_leastBetween 66 = .ok (.iconst 0, 1) := by decide +kernel
theorem dX1_leastBetween_67 : decode cX1_leastBetween 67 = .ok (.istore 7, 2) := by decide +kernel
theorem dX1_leastBetween_69 : decode cX1_leastBetween 69 = .ok (.iload 7, 2) := by decide +kernel
theorem dX1_leastBetween_71 : decode cX1_leastBetween 71 = .ok (.sipush 400, 3) := by decide +kernel
theorem dX1_leastBetween_74 : decode cX1_leastBetween 74 = .ok (.if_icmp .ge 35, 3) := by decide +kernel
theorem dX1_leastBetween_77 : decode cX1_leastBetween 77 = .ok (.iload 6, 2) := by decide +kernel
theorem dX1_leastBetween_79 : decode cX1_leastBetween 79 = .ok (.ifCond .eq 30, 3) := by decide +kernel
theorem dX1_leastBetween_82 : decode cX1_leastBetween 82 = .ok (.iload 5, 2) := by decide +kernel
theorem dX1_leastBetween_84 : decode cX1_leastBetween 84 = .ok (.aload_n 0, 1) := by decide +kernel
theorem dX1_leastBetween_85 : decode cX1_leastBetween 85 = .ok (.iload_n 3, 1) := by decide +kernel
theorem dX1_leastBetween_86 : decode cX1_leastBetween 86 = .ok (.iload 4, 2) := by decide +kernel
theorem dX1_leastBetween_88 : decode cX1_leastBetween 88 = .ok (.invokevirtual 77, 3) := by decide +kernel
theorem dX1_leastBetween_91 : decode cX1_leastBetween 91 = .ok (.iadd, 1) := by decide +kernel
theorem dX1_leastBetween_92 : decode cX1_leastBetween 92 = .ok (.istore 5, 2) := by decide +kernel
theorem dX1_leastBetween_94 : decode cX1_leastBetween 94 = .ok (.aload_n 0, 1) := by decide +kernel
theorem dX1_leastBetween_95 : decode cX1_leastBetween 95 = .ok (.iload_n 3, 1) := by decide +kernel
theorem dX1_leastBetween_96 : decode cX1_leastBetween 96 = .ok (.iload 4, 2) := by decide +kernel
theorem dX1_leastBetween_98 : decode cX1_leastBetween 98 = .ok (.invokevirtual 74, 3) := by decide +kernel
theorem dX1_leastBetween_101 : decode cX1_leastBetween 101 = .ok (.istore 6, 2) := by decide +kernel
theorem dX1_leastBetween_103 : decode cX1_leastBetween 103 = .ok (.iinc 7 1, 3) := by decide +kernel
theorem dX1_leastBetween_106 : decode cX1_leastBetween 106 = .ok (.goto (-37), 3) := by decide +kernel
theorem dX1_leastBetween_109 : decode cX1_leastBetween 109 = .ok (.iload 5, 2) := by decide +kernel
theorem dX1_leastBetween_111 : decode cX1_leastBetween 111 = .ok (.ireturn, 1) := by decide +kernel
abbrev cX1_findWay : ByteArray := prog_1_method_14_code
def yX1_findWay : MethodName := ⟨RX1, "findWay", "(II)Z"⟩
theorem dX1_findWay_0 : decode cX1_findWay 0 = .ok (.iconst 0, 1) := by decide +kernel
theorem dX1_findWay_1 : decode cX1_findWay 1 = .ok (.istore_n 3, 1) := by decide +kernel
theorem dX1_findWay_2 : decode cX1_findWay 2 = .ok (.iload_n 3, 1) := by decide +kernel
theorem dX1_findWay_3 : decode cX1_findWay 3 = .ok (.aload_n 0, 1) := by decide +kernel
theorem dX1_findWay_4 : decode cX1_findWay 4 = .ok (.getfield 41, 3) := by decide +kernel
theorem dX1_findWay_7 : decode cX1_findWay 7 = .ok (.if_icmp .ge 16, 3) := by decide +kernel
theorem dX1_findWay_10 : decode cX1_findWay 10 = .ok (.aload_n 0, 1) := by decide +kernel
theorem dX1_findWay_11 : decode cX1_findWay 11 = .ok (.getfield 35, 3) := by decide +kernel
theorem dX1_findWay_14 : decode cX1_findWay 14 = .ok (.iload_n 3, 1) := by decide +kernel
theorem dX1_findWay_15 : decode cX1_findWay 15 = .ok (.iconst (-1), 1) := by decide +kernel
theorem dX1_findWay_16 : decode cX1_findWay 16 = .ok (.iastore, 1) := by decide +kernel
theorem dX1_findWay_17 : decode cX1_findWay 17 = .ok (.iinc 3 1, 3) := by decide +kernel
theorem dX1_findWay_20 : decode cX1_findWay 20 = .ok (.goto (-18), 3) := by decide +kernel
theorem dX1_findWay_23 : decode cX1_findWay 23 = .ok (.aload_n 0, 1) := by decide +kernel
theorem dX1_findWay_24 : decode cX1_findWay 24 = .ok (.getfield 35, 3) := by decide +kernel
theorem dX1_findWay_27 : decode cX1_findWay 27 = .ok (.iload_n 1, 1) := by decide +kernel
theorem dX1_findWay_28 : decode cX1_findWay 28 = .ok (.iload_n 1, 1) := by decide +kernel
theorem dX1_findWay_29 : decode cX1_findWay 29 = .ok (.iastore, 1) := by decide +kernel
theorem dX1_findWay_30 : decode cX1_findWay 30 = .ok (.aload_n 0, 1) := by decide +kernel
theorem dX1_findWay_31 : decode cX1_findWay 31 = .ok (.getfield 38, 3) := by decide +kernel
theorem dX1_findWay_34 : decode cX1_findWay 34 = .ok (.iconst 0, 1) := by decide +kernel
theorem dX1_findWay_35 : decode cX1_findWay 35 = .ok (.iload_n 1, 1) := by decide +kernel
theorem dX1_findWay_36 : decode cX1_findWay 36 = .ok (.iastore, 1) := by decide +kernel
theorem dX1_findWay_37 : decode cX1_findWay 37 = .ok (.iconst 1, 1) := by decide +kernel
theorem dX1_findWay_38 : decode cX1_findWay 38 = .ok (.istore_n 3, 1) := by decide +kernel
theorem dX1_findWay_39 : decode cX1_findWay 39 = .ok (.iconst 0, 1) := by decide +kernel
theorem dX1_findWay_40 : decode cX1_findWay 40 = .ok (.istore 4, 2) := by decide +kernel
theorem dX1_findWay_42 : decode cX1_findWay 42 = .ok (.iload 4, 2) := by decide +kernel
theorem dX1_findWay_44 : decode cX1_findWay 44 = .ok (.iload_n 3, 1) := by decide +kernel
theorem dX1_findWay_45 : decode cX1_findWay 45 = .ok (.if_icmp .ge 89, 3) := by decide +kernel
theorem dX1_findWay_48 : decode cX1_findWay 48 = .ok (.iload 4, 2) := by decide +kernel
theorem dX1_findWay_50 : decode cX1_findWay 50 = .ok (.bipush 9, 2) := by decide +kernel
theorem dX1_findWay_52 : decode cX1_findWay 52 = .ok (.if_icmp .ge 82, 3) := by decide +kernel
theorem dX1_findWay_55 : decode cX1_findWay 55 = .ok (.aload_n 0, 1) := by decide +kernel
theorem dX1_findWay_56 : decode cX1_findWay 56 = .ok (.getfield 38, 3) := by decide +kernel
theorem dX1_findWay_59 : decode cX1_findWay 59 = .ok (.iload 4, 2) := by decide +kernel
theorem dX1_findWay_61 : decode cX1_findWay 61 = .ok (.iaload, 1) := by decide +kernel
theorem dX1_findWay_62 : decode cX1_findWay 62 = .ok (.istore 5, 2) := by decide +kernel
theorem dX1_findWay_64 : decode cX1_findWay 64 = .ok (.iconst 0, 1) := by decide +kernel
theorem dX1_findWay_65 : decode cX1_findWay 65 = .ok (.istore 6, 2) := by decide +kernel
theorem dX1_findWay_67 : decode cX1_findWay 67 = .ok (.iload 6, 2) := by decide +kernel
theorem dX1_findWay_69 : decode cX1_findWay 69 = .ok (.aload_n 0, 1) := by decide +kernel
theorem dX1_findWay_70 : decode cX1_findWay 70 = .ok (.getfield 41, 3) := by decide +kernel
theorem dX1_findWay_73 : decode cX1_findWay 73 = .ok (.if_icmp .ge 55, 3) := by decide +kernel
theorem dX1_findWay_76 : decode cX1_findWay 76 = .ok (.aload_n 0, 1) := by decide +kernel
theorem dX1_findWay_77 : decode cX1_findWay 77 = .ok (.getfield 35, 3) := by decide +kernel
theorem dX1_findWay_80 : decode cX1_findWay 80 = .ok (.iload 6, 2) := by decide +kernel
theorem dX1_findWay_82 : decode cX1_findWay 82 = .ok (.iaload, 1) := by decide +kernel
theorem dX1_findWay_83 : decode cX1_findWay 83 = .ok (.ifCond .ge 39, 3) := by decide +kernel
theorem dX1_findWay_86 : decode cX1_findWay 86 = .ok (.aload_n 0, 1) := by decide +kernel
theorem dX1_findWay_87 : decode cX1_findWay 87 = .ok (.getfield 32, 3) := by decide +kernel
theorem dX1_findWay_90 : decode cX1_findWay 90 = .ok (.iload 5, 2) := by decide +kernel
theorem dX1_findWay_92 : decode cX1_findWay 92 = .ok (.bipush 9, 2) := by decide +kernel
theorem dX1_findWay_94 : decode cX1_findWay 94 = .ok (.imul, 1) := by decide +kernel
theorem dX1_findWay_95 : decode cX1_findWay 95 = .ok (.iload 6, 2) := by decide +kernel
theorem dX1_findWay_97 : decode cX1_findWay 97 = .ok (.iadd, 1) := by decide +kernel
theorem dX1_findWay_98 : decode cX1_findWay 98 = .ok (.iaload, 1) := by decide +kernel
theorem dX1_findWay_99 : decode cX1_findWay 99 = .ok (.ifCond .le 23, 3) := by decide +kernel
theorem dX1_findWay_102 : decode cX1_findWay 102 = .ok (.aload_n 0, 1) := by decide +kernel
theorem dX1_findWay_103 : decode cX1_findWay 103 = .ok (.getfield 35, 3) := by decide +kernel
theorem dX1_findWay_106 : decode cX1_findWay 106 = .ok (.iload 6, 2) := by decide +kernel
theorem dX1_findWay_108 : decode cX1_findWay 108 = .ok (.iload 5, 2) := by decide +kernel
theorem dX1_findWay_110 : decode cX1_findWay 110 = .ok (.iastore, 1) := by decide +kernel
theorem dX1_findWay_111 : decode cX1_findWay 111 = .ok (.aload_n 0, 1) := by decide +kernel
theorem dX1_findWay_112 : decode cX1_findWay 112 = .ok (.getfield 38, 3) := by decide +kernel
theorem dX1_findWay_115 : decode cX1_findWay 115 = .ok (.iload_n 3, 1) := by decide +kernel
theorem dX1_findWay_116 : decode cX1_findWay 116 = .ok (.iload 6, 2) := by decide +kernel
theorem dX1_findWay_118 : decode cX1_findWay 118 = .ok (.iastore, 1) := by decide +kernel
theorem dX1_findWay_119 : decode cX1_findWay 119 = .ok (.iinc 3 1, 3) := by decide +kernel
theorem dX1_findWay_122 : decode cX1_findWay 122 = .ok (.iinc 6 1, 3) := by decide +kernel
theorem dX1_findWay_125 : decode cX1_findWay 125 = .ok (.goto (-58), 3) := by decide +kernel
theorem dX1_findWay_128 : decode cX1_findWay 128 = .ok (.iinc 4 1, 3) := by decide +kernel
theorem dX1_findWay_131 : decode cX1_findWay 131 = .ok (.goto (-89), 3) := by decide +kernel
theorem dX1_findWay_134 : decode cX1_findWay 134 = .ok (.aload_n 0, 1) := by decide +kernel
theorem dX1_findWay_135 : decode cX1_findWay 135 = .ok (.getfield 35, 3) := by decide +kernel
theorem dX1_findWay_138 : decode cX1_findWay 138 = .ok (.iload_n 2, 1) := by decide +kernel
theorem dX1_findWay_139 : decode cX1_findWay 139 = .ok (.iaload, 1) := by decide +kernel
theorem dX1_findWay_140 : decode cX1_findWay 140 = .ok (.ifCond .lt 7, 3) := by decide +kernel
theorem dX1_findWay_143 : decode cX1_findWay 143 = .ok (.iconst 1, 1) := by decide +kernel
theorem dX1_findWay_144 : decode cX1_findWay 144 = .ok (.goto 4, 3) := by decide +kernel
theorem dX1_findWay_147 : decode cX1_findWay 147 = .ok (.iconst 0, 1) := by decide +kernel
theorem dX1_findWay_148 : decode cX1_findWay 148 = .ok (.ireturn, 1) := by decide +kernel
abbrev cX1_sendAlong : ByteArray := prog_1_method_15_code
def yX1_sendAlong : MethodName := ⟨RX1, "sendAlong", "(II)I"⟩
theorem dX1_sendAlong_0 : decode cX1_sendAlong 0 = .ok (.ldc 66, 2) := by decide +kernel
theorem dX1_sendAlong_2 : decode cX1_sendAlong 2 = .ok (.istore_n 3, 1) := by decide +kernel
theorem dX1_sendAlong_3 : decode cX1_sendAlong 3 = .ok (.iload_n 2, 1) := by decide +kernel
theorem dX1_sendAlong_4 : decode cX1_sendAlong 4 = .ok (.istore 4, 2) := by decide +kernel
theorem dX1_sendAlong_6 : decode cX1_sendAlong 6 = .ok (.iconst 0, 1) := by decide +kernel
theorem dX1_sendAlong_7 : decode cX1_sendAlong 7 = .ok (.istore 5, 2) := by decide +kernel
theorem dX1_sendAlong_9 : decode cX1_sendAlong 9 = .ok (.iload 5, 2) := by decide +kernel
theorem dX1_sendAlong_11 : decode cX1_sendAlong 11 = .ok (.bipush 9, 2) := by decide +kernel
theorem dX1_sendAlong_13 : decode cX1_sendAlong 13 = .ok (.if_icmp .ge 59, 3) := by decide +kernel
theorem dX1_sendAlong_16 : decode cX1_sendAlong 16 = .ok (.iload 4, 2) := by decide +kernel
theorem dX1_sendAlong_18 : decode cX1_sendAlong 18 = .ok (.iload_n 1, 1) := by decide +kernel
theorem dX1_sendAlong_19 : decode cX1_sendAlong 19 = .ok (.if_icmp .eq 53, 3) := by decide +kernel
theorem dX1_sendAlong_22 : decode cX1_sendAlong 22 = .ok (.aload_n 0, 1) := by decide +kernel
theorem dX1_sendAlong_23 : decode cX1_sendAlong 23 = .ok (.getfield 35, 3) := by decide +kernel
theorem dX1_sendAlong_26 : decode cX1_sendAlong 26 = .ok (.iload 4, 2) := by decide +kernel
theorem dX1_sendAlong_28 : decode cX1_sendAlong 28 = .ok (.iaload, 1) := by decide +kernel
theorem dX1_sendAlong_29 : decode cX1_sendAlong 29 = .ok (.istore 6, 2) := by decide +kernel
theorem dX1_sendAlong_31 : decode cX1_sendAlong 31 = .ok (.aload_n 0, 1) := by decide +kernel
theorem dX1_sendAlong_32 : decode cX1_sendAlong 32 = .ok (.getfield 32, 3) := by decide +kernel
theorem dX1_sendAlong_35 : decode cX1_sendAlong 35 = .ok (.iload 6, 2) := by decide +kernel
theorem dX1_sendAlong_37 : decode cX1_sendAlong 37 = .ok (.bipush 9, 2) := by decide +kernel
theorem dX1_sendAlong_39 : decode cX1_sendAlong 39 = .ok (.imul, 1) := by decide +kernel
theorem dX1_sendAlong_40 : decode cX1_sendAlong 40 = .ok (.iload 4, 2) := by decide +kernel
theorem dX1_sendAlong_42 : decode cX1_sendAlong 42 = .ok (.iadd, 1) := by decide +kernel
theorem dX1_sendAlong_43 : decode cX1_sendAlong 43 = .ok (.iaload, 1) := by decide +kernel
theorem dX1_sendAlong_44 : decode cX1_sendAlong 44 = .ok (.iload_n 3, 1) := by decide +kernel
theorem dX1_sendAlong_45 : decode cX1_sendAlong 45 = .ok (.if_icmp .ge 17, 3) := by decide +kernel
theorem dX1_sendAlong_48 : decode cX1_sendAlong 48 = .ok (.aload_n 0, 1) := by decide +kernel
theorem dX1_sendAlong_49 : decode cX1_sendAlong 49 = .ok (.getfield 32, 3) := by decide +kernel
theorem dX1_sendAlong_52 : decode cX1_sendAlong 52 = .ok (.iload 6, 2) := by decide +kernel
theorem dX1_sendAlong_54 : decode cX1_sendAlong 54 = .ok (.bipush 9, 2) := by decide +kernel
theorem dX1_sendAlong_56 : decode cX1_sendAlong 56 = .ok (.imul, 1) := by decide +kernel
theorem dX1_sendAlong_57 : decode cX1_sendAlong 57 = .ok (.iload 4, 2) := by decide +kernel
theorem dX1_sendAlong_59 : decode cX1_sendAlong 59 = .ok (.iadd, 1) := by decide +kernel
theorem dX1_sendAlong_60 : decode cX1_sendAlong 60 = .ok (.iaload, 1) := by decide +kernel
theorem dX1_sendAlong_61 : decode cX1_sendAlong 61 = .ok (.istore_n 3, 1) := by decide +kernel
theorem dX1_sendAlong_62 : decode cX1_sendAlong 62 = .ok (.iload 6, 2) := by decide +kernel
theorem dX1_sendAlong_64 : decode cX1_sendAlong 64 = .ok (.istore 4, 2) := by decide +kernel
theorem dX1_sendAlong_66 : decode cX1_sendAlong 66 = .ok (.iinc 5 1, 3) := by decide +kernel
theorem dX1_sendAlong_69 : decode cX1_sendAlong 69 = .ok (.goto (-60), 3) := by decide +kernel
theorem dX1_sendAlong_72 : decode cX1_sendAlong 72 = .ok (.iload_n 2, 1) := by decide +kernel
theorem dX1_sendAlong_73 : decode cX1_sendAlong 73 = .ok (.istore 4, 2) := by decide +kernel
theorem dX1_sendAlong_75 : decode cX1_sendAlong 75 = .ok (.iconst 0, 1) := by decide +kernel
theorem dX1_sendAlong_76 : decode cX1_sendAlong 76 = .ok (.istore 5, 2) := by decide +kernel
theorem dX1_sendAlong_78 : decode cX1_sendAlong 78 = .ok (.iload 5, 2) := by decide +kernel
theorem dX1_sendAlong_80 : decode cX1_sendAlong 80 = .ok (.bipush 9, 2) := by decide +kernel
theorem dX1_sendAlong_82 : decode cX1_sendAlong 82 = .ok (.if_icmp .ge 62, 3) := by decide +kernel
theorem dX1_sendAlong_85 : decode cX1_sendAlong 85 = .ok (.iload 4, 2) := by decide +kernel
theorem dX1_sendAlong_87 : decode cX1_sendAlong 87 = .ok (.iload_n 1, 1) := by decide +kernel
theorem dX1_sendAlong_88 : decode cX1_sendAlong 88 = .ok (.if_icmp .eq 56, 3) := by decide +kernel
theorem dX1_sendAlong_91 : decode cX1_sendAlong 91 = .ok (.aload_n 0, 1) := by decide +kernel
theorem dX1_sendAlong_92 : decode cX1_sendAlong 92 = .ok (.getfield 35, 3) := by decide +kernel
theorem dX1_sendAlong_95 : decode cX1_sendAlong 95 = .ok (.iload 4, 2) := by decide +kernel
theorem dX1_sendAlong_97 : decode cX1_sendAlong 97 = .ok (.iaload, 1) := by decide +kernel
theorem dX1_sendAlong_98 : decode cX1_sendAlong 98 = .ok (.istore 6, 2) := by decide +kernel
theorem dX1_sendAlong_100 : decode cX1_sendAlong 100 = .ok (.aload_n 0, 1) := by decide +kernel
theorem dX1_sendAlong_101 : decode cX1_sendAlong 101 = .ok (.getfield 32, 3) := by decide +kernel
theorem dX1_sendAlong_104 : decode cX1_sendAlong 104 = .ok (.iload 6, 2) := by decide +kernel
theorem dX1_sendAlong_106 : decode cX1_sendAlong 106 = .ok (.bipush 9, 2) := by decide +kernel
theorem dX1_sendAlong_108 : decode cX1_sendAlong 108 = .ok (.imul, 1) := by decide +kernel
theorem dX1_sendAlong_109 : decode cX1_sendAlong 109 = .ok (.iload 4, 2) := by decide +kernel
theorem dX1_sendAlong_111 : decode cX1_sendAlong 111 = .ok (.iadd, 1) := by decide +kernel
theorem dX1_sendAlong_112 : decode cX1_sendAlong 112 = .ok (.dup2, 1) := by decide +kernel
theorem dX1_sendAlong_113 : decode cX1_sendAlong 113 = .ok (.iaload, 1) := by decide +kernel
theorem dX1_sendAlong_114 : decode cX1_sendAlong 114 = .ok (.iload_n 3, 1) := by decide +kernel
theorem dX1_sendAlong_115 : decode cX1_sendAlong 115 = .ok (.isub, 1) := by decide +kernel
theorem dX1_sendAlong_116 : decode cX1_sendAlong 116 = .ok (.iastore, 1) := by decide +kernel
theorem dX1_sendAlong_117 : decode cX1_sendAlong 117 = .ok (.aload_n 0, 1) := by decide +kernel
theorem dX1_sendAlong_118 : decode cX1_sendAlong 118 = .ok (.getfield 32, 3) := by decide +kernel
theorem dX1_sendAlong_121 : decode cX1_sendAlong 121 = .ok (.iload 4, 2) := by decide +kernel
theorem dX1_sendAlong_123 : decode cX1_sendAlong 123 = .ok (.bipush 9, 2) := by decide +kernel
theorem dX1_sendAlong_125 : decode cX1_sendAlong 125 = .ok (.imul, 1) := by decide +kernel
theorem dX1_sendAlong_126 : decode cX1_sendAlong 126 = .ok (.iload 6, 2) := by decide +kernel
theorem dX1_sendAlong_128 : decode cX1_sendAlong 128 = .ok (.iadd, 1) := by decide +kernel
theorem dX1_sendAlong_129 : decode cX1_sendAlong 129 = .ok (.dup2, 1) := by decide +kernel
theorem dX1_sendAlong_130 : decode cX1_sendAlong 130 = .ok (.iaload, 1) := by decide +kernel
theorem dX1_sendAlong_131 : decode cX1_sendAlong 131 = .ok (.iload_n 3, 1) := by decide +kernel
theorem dX1_sendAlong_132 : decode cX1_sendAlong 132 = .ok (.iadd, 1) := by decide +kernel
theorem dX1_sendAlong_133 : decode cX1_sendAlong 133 = .ok (.iastore, 1) := by decide +kernel
theorem dX1_sendAlong_134 : decode cX1_sendAlong 134 = .ok (.iload 6, 2) := by decide +kernel
theorem dX1_sendAlong_136 : decode cX1_sendAlong 136 = .ok (.istore 4, 2) := by decide +kernel
theorem dX1_sendAlong_138 : decode cX1_sendAlong 138 = .ok (.iinc 5 1, 3) := by decide +kernel
theorem dX1_sendAlong_141 : decode cX1_sendAlong 141 = .ok (.goto (-63), 3) := by decide +kernel
theorem dX1_sendAlong_144 : decode cX1_sendAlong 144 = .ok (.iload_n 3, 1) := by decide +kernel
theorem dX1_sendAlong_145 : decode cX1_sendAlong 145 = .ok (.ireturn, 1) := by decide +kernel
abbrev cX1_between : ByteArray := prog_1_method_20_code
def yX1_between : MethodName := ⟨RX1, "between", "(II)I"⟩
theorem dX1_between_0 : decode cX1_between 0 = .ok (.aload_n 0, 1) := by decide +kernel
theorem dX1_between_1 : decode cX1_between 1 = .ok (.iload_n 1, 1) := by decide +kernel
theorem dX1_between_2 : decode cX1_between 2 = .ok (.iload_n 2, 1) := by decide +kernel
theorem dX1_between_3 : decode cX1_between 3 = .ok (.invokevirtual 45, 3) := by decide +kernel
theorem dX1_between_6 : decode cX1_between 6 = .ok (.ifCond .eq 5, 3) := by decide +kernel
theorem dX1_between_9 : decode cX1_between 9 = .ok (.iconst (-1), 1) := by decide +kernel
theorem dX1_between_10 : decode cX1_between 10 = .ok (.ireturn, 1) := by decide +kernel
theorem dX1_between_11 : decode cX1_between 11 = .ok (.aload_n 0, 1) := by decide +kernel
theorem dX1_between_12 : decode cX1_between 12 = .ok (.iconst (-1), 1) := by decide +kernel
theorem dX1_between_13 : decode cX1_between 13 = .ok (.invokevirtual 81, 3) := by decide +kernel
theorem dX1_between_16 : decode cX1_between 16 = .ok (.aload_n 0, 1) := by decide +kernel
theorem dX1_between_17 : decode cX1_between 17 = .ok (.iconst (-1), 1) := by decide +kernel
theorem dX1_between_18 : decode cX1_between 18 = .ok (.invokevirtual 85, 3) := by decide +kernel
theorem dX1_between_21 : decode cX1_between 21 = .ok (.aload_n 0, 1) := by decide +kernel
theorem dX1_between_22 : decode cX1_between 22 = .ok (.iload_n 1, 1) := by decide +kernel
theorem dX1_between_23 : decode cX1_between 23 = .ok (.iload_n 2, 1) := by decide +kernel
theorem dX1_between_24 : decode cX1_between 24 = .ok (.invokevirtual 94, 3) := by decide +kernel
theorem dX1_between_27 : decode cX1_between 27 = .ok (.ireturn, 1) := by decide +kernel
abbrev cX1_value : ByteArray := prog_1_method_21_code
def yX1_value : MethodName := ⟨RX1, "value", "(I)I"⟩
theorem dX1_value_0 : decode cX1_value 0 = .ok (.iconst 0, 1) := by decide +kernel
theorem dX1_value_1 : decode cX1_value 1 = .ok (.istore_n 2, 1) := by decide +kernel
theorem dX1_value_2 : decode cX1_value 2 = .ok (.iconst 0, 1) := by decide +kernel
theorem dX1_value_3 : decode cX1_value 3 = .ok (.istore_n 3, 1) := by decide +kernel
theorem dX1_value_4 : decode cX1_value 4 = .ok (.iload_n 3, 1) := by decide +kernel
theorem dX1_value_5 : decode cX1_value 5 = .ok (.aload_n 0, 1) := by decide +kernel
theorem dX1_value_6 : decode cX1_value 6 = .ok (.getfield 41, 3) := by decide +kernel
theorem dX1_value_9 : decode cX1_value 9 = .ok (.if_icmp .ge 60, 3) := by decide +kernel
theorem dX1_value_12 : decode cX1_value 12 = .ok (.iconst 0, 1) := by decide +kernel
theorem dX1_value_13 : decode cX1_value 13 = .ok (.istore 4, 2) := by decide +kernel
theorem dX1_value_15 : decode cX1_value 15 = .ok (.iload 4, 2) := by decide +kernel
theorem dX1_value_17 : decode cX1_value 17 = .ok (.aload_n 0, 1) := by decide +kernel
theorem dX1_value_18 : decode cX1_value 18 = .ok (.getfield 41, 3) := by decide +kernel
theorem dX1_value_21 : decode cX1_value 21 = .ok (.if_icmp .ge 42, 3) := by decide +kernel
theorem dX1_value_24 : decode cX1_value 24 = .ok (.iload_n 1, 1) := by decide +kernel
theorem dX1_value_25 : decode cX1_value 25 = .ok (.iload_n 3, 1) := by decide +kernel
theorem dX1_value_26 : decode cX1_value 26 = .ok (.ishr, 1) := by decide +kernel
theorem dX1_value_27 : decode cX1_value 27 = .ok (.iconst 1, 1) := by decide +kernel
theorem dX1_value_28 : decode cX1_value 28 = .ok (.iand, 1) := by decide +kernel
theorem dX1_value_29 : decode cX1_value 29 = .ok (.iconst 1, 1) := by decide +kernel
theorem dX1_value_30 : decode cX1_value 30 = .ok (.if_icmp .ne 27, 3) := by decide +kernel
theorem dX1_value_33 : decode cX1_value 33 = .ok (.iload_n 1, 1) := by decide +kernel
theorem dX1_value_34 : decode cX1_value 34 = .ok (.iload 4, 2) := by decide +kernel
theorem dX1_value_36 : decode cX1_value 36 = .ok (.ishr, 1) := by decide +kernel
theorem dX1_value_37 : decode cX1_value 37 = .ok (.iconst 1, 1) := by decide +kernel
theorem dX1_value_38 : decode cX1_value 38 = .ok (.iand, 1) := by decide +kernel
theorem dX1_value_39 : decode cX1_value 39 = .ok (.ifCond .ne 18, 3) := by decide +kernel
theorem dX1_value_42 : decode cX1_value 42 = .ok (.iload_n 2, 1) := by decide +kernel
theorem dX1_value_43 : decode cX1_value 43 = .ok (.aload_n 0, 1) := by decide +kernel
theorem dX1_value_44 : decode cX1_value 44 = .ok (.getfield 7, 3) := by decide +kernel
theorem dX1_value_47 : decode cX1_value 47 = .ok (.iload_n 3, 1) := by decide +kernel
theorem dX1_value_48 : decode cX1_value 48 = .ok (.bipush 9, 2) := by decide +kernel
theorem dX1_value_50 : decode cX1_value 50 = .ok (.imul, 1) := by decide +kernel
theorem dX1_value_51 : decode cX1_value 51 = .ok (.iload 4, 2) := by decide +kernel
theorem dX1_value_53 : decode cX1_value 53 = .ok (.iadd, 1) := by decide +kernel
theorem dX1_value_54 : decode cX1_value 54 = .ok (.iaload, 1) := by decide +kernel
theorem dX1_value_55 : decode cX1_value 55 = .ok (.iadd, 1) := by decide +kernel
theorem dX1_value_56 : decode cX1_value 56 = .ok (.istore_n 2, 1) := by decide +kernel
theorem dX1_value_57 : decode cX1_value 57 = .ok (.iinc 4 1, 3) := by decide +kernel
theorem dX1_value_60 : decode cX1_value 60 = .ok (.goto (-45), 3) := by decide +kernel
theorem dX1_value_63 : decode cX1_value 63 = .ok (.iinc 3 1, 3) := by decide +kernel
theorem dX1_value_66 : decode cX1_value 66 = .ok (.goto (-62), 3) := by decide +kernel
theorem dX1_value_69 : decode cX1_value 69 = .ok (.iload_n 2, 1) := by decide +kernel
theorem dX1_value_70 : decode cX1_value 70 = .ok (.ireturn, 1) := by decide +kernel
end
section
set_option maxRecDepth 100000
abbrev cX1_separated : ByteArray := prog_1_method_22_code
def yX1_separated : MethodName := ⟨RX1, "separated", "()I"⟩
theorem dX1_separated_0 : decode cX1_separated 0 = .ok (.aload_n 0, 1) := by decide +kernel
theorem dX1_separated_1 : decode cX1_separated 1 = .ok (.invokevirtual 97, 3) := by decide +kernel
theorem dX1_separated_4 : decode cX1_separated 4 = .ok (.istore_n 1, 1) := by decide +kernel
theorem dX1_separated_5 : decode cX1_separated 5 = .ok (.iload_n 1, 1) := by decide +kernel
theorem dX1_separated_6 : decode cX1_separated 6 = .ok (.bipush (-3), 2) := by decide +kernel
theorem dX1_separated_8 : decode cX1_separated 8 = .ok (.if_icmp .ne 5, 3) := by decide +kernel
theorem dX1_separated_11 : decode cX1_separated 11 = .ok (.iconst 0, 1) := by decide +kernel
theorem dX1_separated_12 : decode cX1_separated 12 = .ok (.ireturn, 1) := by decide +kernel
theorem dX1_separated_13 : decode cX1_separated 13 = .ok (.aload_n 0, 1) := by decide +kernel
theorem dX1_separated_14 : decode cX1_separated 14 = .ok (.iconst (-1), 1) := by decide +kernel
theorem dX1_separated_15 : decode cX1_separated 15 = .ok (.invokevirtual 81, 3) := by decide +kernel
theorem dX1_separated_18 : decode cX1_separated 18 = .ok (.aload_n 0, 1) := by decide +kernel
theorem dX1_separated_19 : decode cX1_separated 19 = .ok (.iconst (-1), 1) := by decide +kernel
theorem dX1_separated_20 : decode cX1_separated 20 = .ok (.invokevirtual 85, 3) := by decide +kernel
theorem dX1_separated_23 : decode cX1_separated 23 = .ok (.iconst 0, 1) := by decide +kernel
theorem dX1_separated_24 : decode cX1_separated 24 = .ok (.istore_n 2, 1) := by decide +kernel
theorem dX1_separated_25 : decode cX1_separated 25 = .ok (.iconst 0, 1) := by decide +kernel
theorem dX1_separated_26 : decode cX1_separated 26 = .ok (.istore_n 3, 1) := by decide +kernel
theorem dX1_separated_27 : decode cX1_separated 27 = .ok (.iload_n 3, 1) := by decide +kernel
theorem dX1_separated_28 : decode cX1_separated 28 = .ok (.aload_n 0, 1) := by decide +kernel
theorem dX1_separated_29 : decode cX1_separated 29 = .ok (.getfield 41, 3) := by decide +kernel
theorem dX1_separated_32 : decode cX1_separated 32 = .ok (.if_icmp .ge 47, 3) := by decide +kernel
theorem dX1_separated_35 : decode cX1_separated 35 = .ok (.iload_n 3, 1) := by decide +kernel
theorem dX1_separated_36 : decode cX1_separated 36 = .ok (.iconst 1, 1) := by decide +kernel
theorem dX1_separated_37 : decode cX1_separated 37 = .ok (.iadd, 1) := by decide +kernel
theorem dX1_separated_38 : decode cX1_separated 38 = .ok (.istore 4, 2) := by decide +kernel
theorem dX1_separated_40 : decode cX1_separated 40 = .ok (.iload 4, 2) := by decide +kernel
theorem dX1_separated_42 : decode cX1_separated 42 = .ok (.aload_n 0, 1) := by decide +kernel
theorem dX1_separated_43 : decode cX1_separated 43 = .ok (.getfield 41, 3) := by decide +kernel
theorem dX1_separated_46 : decode cX1_separated 46 = .ok (.if_icmp .ge 27, 3) := by decide +kernel
theorem dX1_separated_49 : decode cX1_separated 49 = .ok (.aload_n 0, 1) := by decide +kernel
theorem dX1_separated_50 : decode cX1_separated 50 = .ok (.iload_n 3, 1) := by decide +kernel
theorem dX1_separated_51 : decode cX1_separated 51 = .ok (.iload 4, 2) := by decide +kernel
theorem dX1_separated_53 : decode cX1_separated 53 = .ok (.invokevirtual 94, 3) := by decide +kernel
theorem dX1_separated_56 : decode cX1_separated 56 = .ok (.istore 5, 2) := by decide +kernel
theorem dX1_separated_58 : decode cX1_separated 58 = .ok (.iload 5, 2) := by decide +kernel
theorem dX1_separated_60 : decode cX1_separated 60 = .ok (.iload_n 1, 1) := by decide +kernel
theorem dX1_separated_61 : decode cX1_separated 61 = .ok (.if_icmp .ne 6, 3) := by decide +kernel
theorem dX1_separated_64 : decode cX1_separated 64 = .ok (.iinc 2 1, 3) := by decide +kernel
theorem dX1_separated_67 : decode cX1_separated 67 = .ok (.iinc 4 1, 3) := by decide +kernel
theorem dX1_separated_70 : decode cX1_separated 70 = .ok (.goto (-30), 3) := by decide +kernel
theorem dX1_separated_73 : decode cX1_separated 73 = .ok (.iinc 3 1, 3) := by decide +kernel
theorem dX1_separated_76 : decode cX1_separated 76 = .ok (.goto (-49), 3) := by decide +kernel
theorem dX1_separated_79 : decode cX1_separated 79 = .ok (.iload_n 2, 1) := by decide +kernel
theorem dX1_separated_80 : decode cX1_separated 80 = .ok (.ireturn, 1) := by decide +kernel
abbrev cX1_without : ByteArray := prog_1_method_23_code
def yX1_without : MethodName := ⟨RX1, "without", "(I)I"⟩
theorem dX1_without_0 : decode cX1_without 0 = .ok (.iload_n 1, 1) := by decide +kernel
theorem dX1_without_1 : decode cX1_without 1 = .ok (.ifCond .lt 11, 3) := by decide +kernel
theorem dX1_without_4 : decode cX1_without 4 = .ok (.iload_n 1, 1) := by decide +kernel
theorem dX1_without_5 : decode cX1_without 5 = .ok (.aload_n 0, 1) := by decide +kernel
theorem dX1_without_6 : decode cX1_without 6 = .ok (.getfield 41, 3) := by decide +kernel
theorem dX1_without_9 : decode cX1_without 9 = .ok (.if_icmp .lt 5, 3) := by decide +kernel
theorem dX1_without_12 : decode cX1_without 12 = .ok (.iconst (-1), 1) := by decide +kernel
theorem dX1_without_13 : decode cX1_without 13 = .ok (.ireturn, 1) := by decide +kernel
theorem dX1_without_14 : decode cX1_without 14 = .ok (.aload_n 0, 1) := by decide +kernel
theorem dX1_without_15 : decode cX1_without 15 = .ok (.iload_n 1, 1) := by decide +kernel
theorem dX1_without_16 : decode cX1_without 16 = .ok (.invokevirtual 81, 3) := by decide +kernel
theorem dX1_without_19 : decode cX1_without 19 = .ok (.aload_n 0, 1) := by decide +kernel
theorem dX1_without_20 : decode cX1_without 20 = .ok (.iload_n 1, 1) := by decide +kernel
theorem dX1_without_21 : decode cX1_without 21 = .ok (.invokevirtual 85, 3) := by decide +kernel
theorem dX1_without_24 : decode cX1_without 24 = .ok (.aload_n 0, 1) := by decide +kernel
theorem dX1_without_25 : decode cX1_without 25 = .ok (.invokevirtual 88, 3) := by decide +kernel
theorem dX1_without_28 : decode cX1_without 28 = .ok (.ireturn, 1) := by decide +kernel
theorem q18 : (Jvm.Cond.initialized "GlobalMinCut") ∈ lw_all := lw_g (lw_at lw_m0 1 rfl) rfl
theorem q21 : (Jvm.Cond.instantiable "GlobalMinCut" (14 : Nat)) ∈ lw_all := lw_g (lw_at lw_m0 4 rfl) rfl
theorem q23 : (Jvm.Cond.instanceMethod ({ cls := "GlobalMinCut", name := "<init>", desc := "(I)V" } : Jvm.MethodName)) ∈ lw_all := lw_g (lw_at lw_m0 6 rfl) rfl
theorem q24 : (Jvm.Cond.code ({ cls := "GlobalMinCut", name := "<init>", desc := "(I)V" } : Jvm.MethodName) prog_1_method_1_code (3 : Nat) (Option.none : Option Jvm.ClassFile.FieldType)) ∈ lw_all := lw_g (lw_at lw_m0 7 rfl) rfl
theorem q25 : (Jvm.Cond.methodLink "GlobalMinCut" (1 : Nat) ({ cls := "java/lang/Object", name := "<init>", desc := "()V" } : Jvm.MethodName)) ∈ lw_all := lw_g (lw_at lw_m0 8 rfl) rfl
theorem q28 : (Jvm.Cond.fieldLink "GlobalMinCut" (41 : Nat) "GlobalMinCut" "n" "I") ∈ lw_all := lw_g (lw_at lw_m0 11 rfl) rfl
theorem q29 : (Jvm.Cond.fieldLink "GlobalMinCut" (7 : Nat) "GlobalMinCut" "weights" "[I") ∈ lw_all := lw_g (lw_at lw_m0 12 rfl) rfl
theorem q30 : (Jvm.Cond.fieldLink "GlobalMinCut" (13 : Nat) "GlobalMinCut" "glued" "[Z") ∈ lw_all := lw_g (lw_at lw_m0 13 rfl) rfl
theorem q31 : (Jvm.Cond.fieldLink "GlobalMinCut" (17 : Nat) "GlobalMinCut" "label" "[I") ∈ lw_all := lw_g (lw_at lw_m0 14 rfl) rfl
theorem q32 : (Jvm.Cond.fieldLink "GlobalMinCut" (20 : Nat) "GlobalMinCut" "between" "[I") ∈ lw_all := lw_g (lw_at lw_m0 15 rfl) rfl
theorem q33 : (Jvm.Cond.fieldLink "GlobalMinCut" (53 : Nat) "GlobalMinCut" "groups" "I") ∈ lw_all := lw_g (lw_at lw_m0 16 rfl) rfl
theorem q34 : (Jvm.Cond.fieldLink "GlobalMinCut" (23 : Nat) "GlobalMinCut" "left" "[Z") ∈ lw_all := lw_g (lw_at lw_m0 17 rfl) rfl
theorem q35 : (Jvm.Cond.fieldLink "GlobalMinCut" (26 : Nat) "GlobalMinCut" "ordered" "[Z") ∈ lw_all := lw_g (lw_at lw_m0 18 rfl) rfl
theorem q36 : (Jvm.Cond.fieldLink "GlobalMinCut" (29 : Nat) "GlobalMinCut" "hang" "[I") ∈ lw_all := lw_g (lw_at lw_m0 19 rfl) rfl
theorem q37 : (Jvm.Cond.fieldLink "GlobalMinCut" (56 : Nat) "GlobalMinCut" "last" "I") ∈ lw_all := lw_g (lw_at lw_m0 20 rfl) rfl
theorem q38 : (Jvm.Cond.fieldLink "GlobalMinCut" (59 : Nat) "GlobalMinCut" "beforeLast" "I") ∈ lw_all := lw_g (lw_at lw_m0 21 rfl) rfl
theorem q39 : (Jvm.Cond.fieldLink "GlobalMinCut" (32 : Nat) "GlobalMinCut" "room" "[I") ∈ lw_all := lw_g (lw_at lw_m0 22 rfl) rfl
theorem q40 : (Jvm.Cond.fieldLink "GlobalMinCut" (35 : Nat) "GlobalMinCut" "cameFrom" "[I") ∈ lw_all := lw_g (lw_at lw_m0 23 rfl) rfl
theorem q41 : (Jvm.Cond.fieldLink "GlobalMinCut" (38 : Nat) "GlobalMinCut" "queue" "[I") ∈ lw_all := lw_g (lw_at lw_m0 24 rfl) rfl
theorem q42 : (Jvm.Cond.laysFinal "GlobalMinCut" "GlobalMinCut" "n" "I") ∈ lw_all := lw_g (lw_at lw_m0 25 rfl) rfl
theorem q43 : (Jvm.Cond.soleField "GlobalMinCut" "n") ∈ lw_all := lw_g (lw_at lw_m0 26 rfl) rfl
theorem q44 : (Jvm.Cond.laysFinal "GlobalMinCut" "GlobalMinCut" "weights" "[I") ∈ lw_all := lw_g (lw_at lw_m0 27 rfl) rfl
theorem q45 : (Jvm.Cond.soleField "GlobalMinCut" "weights") ∈ lw_all := lw_g (lw_at lw_m0 28 rfl) rfl
theorem q46 : (Jvm.Cond.laysFinal "GlobalMinCut" "GlobalMinCut" "glued" "[Z") ∈ lw_all := lw_g (lw_at lw_m0 29 rfl) rfl
theorem q47 : (Jvm.Cond.soleField "GlobalMinCut" "glued") ∈ lw_all := lw_g (lw_at lw_m0 30 rfl) rfl
theorem q48 : (Jvm.Cond.laysFinal "GlobalMinCut" "GlobalMinCut" "label" "[I") ∈ lw_all := lw_g (lw_at lw_m0 31 rfl) rfl
theorem q49 : (Jvm.Cond.soleField "GlobalMinCut" "label") ∈ lw_all := lw_g (lw_at lw_m0 32 rfl) rfl
theorem q50 : (Jvm.Cond.laysFinal "GlobalMinCut" "GlobalMinCut" "between" "[I") ∈ lw_all := lw_g (lw_at lw_m0 33 rfl) rfl
theorem q51 : (Jvm.Cond.soleField "GlobalMinCut" "between") ∈ lw_all := lw_g (lw_at lw_m0 34 rfl) rfl
theorem q52 : (Jvm.Cond.lays "GlobalMinCut" "GlobalMinCut" "groups" "I") ∈ lw_all := lw_g (lw_at lw_m0 35 rfl) rfl
theorem q53 : (Jvm.Cond.soleField "GlobalMinCut" "groups") ∈ lw_all := lw_g (lw_at lw_m0 36 rfl) rfl
theorem q54 : (Jvm.Cond.laysFinal "GlobalMinCut" "GlobalMinCut" "left" "[Z") ∈ lw_all := lw_g (lw_at lw_m0 37 rfl) rfl
theorem q55 : (Jvm.Cond.soleField "GlobalMinCut" "left") ∈ lw_all := lw_g (lw_at lw_m0 38 rfl) rfl
theorem q56 : (Jvm.Cond.laysFinal "GlobalMinCut" "GlobalMinCut" "ordered" "[Z") ∈ lw_all := lw_g (lw_at lw_m0 39 rfl) rfl
theorem q57 : (Jvm.Cond.soleField "GlobalMinCut" "ordered") ∈ lw_all := lw_g (lw_at lw_m0 40 rfl) rfl
theorem q58 : (Jvm.Cond.laysFinal "GlobalMinCut" "GlobalMinCut" "hang" "[I") ∈ lw_all := lw_g (lw_at lw_m0 41 rfl) rfl
theorem q59 : (Jvm.Cond.soleField "GlobalMinCut" "hang") ∈ lw_all := lw_g (lw_at lw_m0 42 rfl) rfl
theorem q60 : (Jvm.Cond.lays "GlobalMinCut" "GlobalMinCut" "last" "I") ∈ lw_all := lw_g (lw_at lw_m0 43 rfl) rfl
theorem q61 : (Jvm.Cond.soleField "GlobalMinCut" "last") ∈ lw_all := lw_g (lw_at lw_m0 44 rfl) rfl
theorem q62 : (Jvm.Cond.lays "GlobalMinCut" "GlobalMinCut" "beforeLast" "I") ∈ lw_all := lw_g (lw_at lw_m0 45 rfl) rfl
theorem q63 : (Jvm.Cond.soleField "GlobalMinCut" "beforeLast") ∈ lw_all := lw_g (lw_at lw_m0 46 rfl) rfl
theorem q64 : (Jvm.Cond.laysFinal "GlobalMinCut" "GlobalMinCut" "room" "[I") ∈ lw_all := lw_g (lw_at lw_m0 47 rfl) rfl
theorem q65 : (Jvm.Cond.soleField "GlobalMinCut" "room") ∈ lw_all := lw_g (lw_at lw_m0 48 rfl) rfl
theorem q66 : (Jvm.Cond.laysFinal "GlobalMinCut" "GlobalMinCut" "cameFrom" "[I") ∈ lw_all := lw_g (lw_at lw_m0 49 rfl) rfl
theorem q67 : (Jvm.Cond.soleField "GlobalMinCut" "cameFrom") ∈ lw_all := lw_g (lw_at lw_m0 50 rfl) rfl
theorem q68 : (Jvm.Cond.laysFinal "GlobalMinCut" "GlobalMinCut" "queue" "[I") ∈ lw_all := lw_g (lw_at lw_m0 51 rfl) rfl
theorem q69 : (Jvm.Cond.soleField "GlobalMinCut" "queue") ∈ lw_all := lw_g (lw_at lw_m0 52 rfl) rfl
theorem q70 : (Jvm.Cond.superclass "GlobalMinCut" "java/lang/Object") ∈ lw_all := lw_g (lw_at lw_m0 53 rfl) rfl
theorem q74 : (Jvm.Cond.instanceMethod ({ cls := "GlobalMinCut", name := "weight", desc := "(III)I" } : Jvm.MethodName)) ∈ lw_all := lw_g (lw_at lw_m0 57 rfl) rfl
theorem q75 : (Jvm.Cond.selects "GlobalMinCut" ({ cls := "GlobalMinCut", name := "weight", desc := "(III)I" } : Jvm.MethodName) ({ cls := "GlobalMinCut", name := "weight", desc := "(III)I" } : Jvm.MethodName)) ∈ lw_all := lw_g (lw_at lw_m0 58 rfl) rfl
theorem q76 : (Jvm.Cond.code ({ cls := "GlobalMinCut", name := "weight", desc := "(III)I" } : Jvm.MethodName) prog_1_method_3_code (5 : Nat) (Option.some Jvm.ClassFile.FieldType.int)) ∈ lw_all := lw_g (lw_at lw_m0 59 rfl) rfl
theorem q77 : (Jvm.Cond.methodLink "GlobalMinCut" (45 : Nat) ({ cls := "GlobalMinCut", name := "badPair", desc := "(II)Z" } : Jvm.MethodName)) ∈ lw_all := lw_g (lw_at lw_m0 60 rfl) rfl
theorem q78 : (Jvm.Cond.privateMethod ({ cls := "GlobalMinCut", name := "badPair", desc := "(II)Z" } : Jvm.MethodName)) ∈ lw_tbl := lw_at lw_m0 61 rfl
theorem q79 : (Jvm.Cond.instanceMethod ({ cls := "GlobalMinCut", name := "badPair", desc := "(II)Z" } : Jvm.MethodName)) ∈ lw_all := lw_g (lw_at lw_m0 62 rfl) rfl
theorem q80 : (Jvm.Cond.code ({ cls := "GlobalMinCut", name := "badPair", desc := "(II)Z" } : Jvm.MethodName) prog_1_method_2_code (3 : Nat) (Option.some Jvm.ClassFile.FieldType.boolean)) ∈ lw_all := lw_g (lw_at lw_m0 63 rfl) rfl
theorem q82 : (Jvm.Cond.instanceMethod ({ cls := "GlobalMinCut", name := "change", desc := "(III)I" } : Jvm.MethodName)) ∈ lw_all := lw_g (lw_at lw_m0 65 rfl) rfl
theorem q83 : (Jvm.Cond.selects "GlobalMinCut" ({ cls := "GlobalMinCut", name := "change", desc := "(III)I" } : Jvm.MethodName) ({ cls := "GlobalMinCut", name := "change", desc := "(III)I" } : Jvm.MethodName)) ∈ lw_all := lw_g (lw_at lw_m0 66 rfl) rfl
theorem q84 : (Jvm.Cond.code ({ cls := "GlobalMinCut", name := "change", desc := "(III)I" } : Jvm.MethodName) prog_1_method_4_code (6 : Nat) (Option.some Jvm.ClassFile.FieldType.int)) ∈ lw_all := lw_g (lw_at lw_m0 67 rfl) rfl
theorem q86 : (Jvm.Cond.instanceMethod ({ cls := "GlobalMinCut", name := "glue", desc := "(IIZ)I" } : Jvm.MethodName)) ∈ lw_all := lw_g (lw_at lw_m0 69 rfl) rfl
theorem q87 : (Jvm.Cond.selects "GlobalMinCut" ({ cls := "GlobalMinCut", name := "glue", desc := "(IIZ)I" } : Jvm.MethodName) ({ cls := "GlobalMinCut", name := "glue", desc := "(IIZ)I" } : Jvm.MethodName)) ∈ lw_all := lw_g (lw_at lw_m0 70 rfl) rfl
theorem q88 : (Jvm.Cond.code ({ cls := "GlobalMinCut", name := "glue", desc := "(IIZ)I" } : Jvm.MethodName) prog_1_method_5_code (5 : Nat) (Option.some Jvm.ClassFile.FieldType.int)) ∈ lw_all := lw_g (lw_at lw_m0 71 rfl) rfl
theorem q90 : (Jvm.Cond.instanceMethod ({ cls := "GlobalMinCut", name := "least", desc := "()I" } : Jvm.MethodName)) ∈ lw_all := lw_g (lw_at lw_m0 73 rfl) rfl
theorem q91 : (Jvm.Cond.selects "GlobalMinCut" ({ cls := "GlobalMinCut", name := "least", desc := "()I" } : Jvm.MethodName) ({ cls := "GlobalMinCut", name := "least", desc := "()I" } : Jvm.MethodName)) ∈ lw_all := lw_g (lw_at lw_m0 74 rfl) rfl
theorem q92 : (Jvm.Cond.code ({ cls := "GlobalMinCut", name := "least", desc := "()I" } : Jvm.MethodName) prog_1_method_17_code (1 : Nat) (Option.some Jvm.ClassFile.FieldType.int)) ∈ lw_all := lw_g (lw_at lw_m0 75 rfl) rfl
theorem q93 : (Jvm.Cond.methodLink "GlobalMinCut" (81 : Nat) ({ cls := "GlobalMinCut", name := "startLabels", desc := "(I)V" } : Jvm.MethodName)) ∈ lw_all := lw_g (lw_at lw_m0 76 rfl) rfl
theorem q94 : (Jvm.Cond.privateMethod ({ cls := "GlobalMinCut", name := "startLabels", desc := "(I)V" } : Jvm.MethodName)) ∈ lw_tbl := lw_at lw_m0 77 rfl
theorem q95 : (Jvm.Cond.instanceMethod ({ cls := "GlobalMinCut", name := "startLabels", desc := "(I)V" } : Jvm.MethodName)) ∈ lw_all := lw_g (lw_at lw_m0 78 rfl) rfl
theorem q96 : (Jvm.Cond.code ({ cls := "GlobalMinCut", name := "startLabels", desc := "(I)V" } : Jvm.MethodName) prog_1_method_7_code (4 : Nat) (Option.none : Option Jvm.ClassFile.FieldType)) ∈ lw_all := lw_g (lw_at lw_m0 79 rfl) rfl
theorem q97 : (Jvm.Cond.methodLink "GlobalMinCut" (49 : Nat) ({ cls := "GlobalMinCut", name := "mergeLabels", desc := "(II)V" } : Jvm.MethodName)) ∈ lw_all := lw_g (lw_at lw_m0 80 rfl) rfl
theorem q98 : (Jvm.Cond.privateMethod ({ cls := "GlobalMinCut", name := "mergeLabels", desc := "(II)V" } : Jvm.MethodName)) ∈ lw_tbl := lw_at lw_m0 81 rfl
theorem q99 : (Jvm.Cond.instanceMethod ({ cls := "GlobalMinCut", name := "mergeLabels", desc := "(II)V" } : Jvm.MethodName)) ∈ lw_all := lw_g (lw_at lw_m0 82 rfl) rfl
theorem q100 : (Jvm.Cond.code ({ cls := "GlobalMinCut", name := "mergeLabels", desc := "(II)V" } : Jvm.MethodName) prog_1_method_6_code (6 : Nat) (Option.none : Option Jvm.ClassFile.FieldType)) ∈ lw_all := lw_g (lw_at lw_m0 83 rfl) rfl
theorem q101 : (Jvm.Cond.methodLink "GlobalMinCut" (85 : Nat) ({ cls := "GlobalMinCut", name := "sumWeights", desc := "(I)V" } : Jvm.MethodName)) ∈ lw_all := lw_g (lw_at lw_m0 84 rfl) rfl
theorem q102 : (Jvm.Cond.privateMethod ({ cls := "GlobalMinCut", name := "sumWeights", desc := "(I)V" } : Jvm.MethodName)) ∈ lw_tbl := lw_at lw_m0 85 rfl
theorem q103 : (Jvm.Cond.instanceMethod ({ cls := "GlobalMinCut", name := "sumWeights", desc := "(I)V" } : Jvm.MethodName)) ∈ lw_all := lw_g (lw_at lw_m0 86 rfl) rfl
theorem q104 : (Jvm.Cond.code ({ cls := "GlobalMinCut", name := "sumWeights", desc := "(I)V" } : Jvm.MethodName) prog_1_method_9_code (4 : Nat) (Option.none : Option Jvm.ClassFile.FieldType)) ∈ lw_all := lw_g (lw_at lw_m0 87 rfl) rfl
theorem q105 : (Jvm.Cond.methodLink "GlobalMinCut" (88 : Nat) ({ cls := "GlobalMinCut", name := "leastOfGroups", desc := "()I" } : Jvm.MethodName)) ∈ lw_all := lw_g (lw_at lw_m0 88 rfl) rfl
theorem q106 : (Jvm.Cond.privateMethod ({ cls := "GlobalMinCut", name := "leastOfGroups", desc := "()I" } : Jvm.MethodName)) ∈ lw_tbl := lw_at lw_m0 89 rfl
theorem q107 : (Jvm.Cond.instanceMethod ({ cls := "GlobalMinCut", name := "leastOfGroups", desc := "()I" } : Jvm.MethodName)) ∈ lw_all := lw_g (lw_at lw_m0 90 rfl) rfl
theorem q108 : (Jvm.Cond.code ({ cls := "GlobalMinCut", name := "leastOfGroups", desc := "()I" } : Jvm.MethodName) prog_1_method_13_code (4 : Nat) (Option.some Jvm.ClassFile.FieldType.int)) ∈ lw_all := lw_g (lw_at lw_m0 91 rfl) rfl
theorem q109 : (Jvm.Cond.constant "GlobalMinCut" (66 : Nat) (1000000 : Int32)) ∈ lw_all := lw_g (lw_at lw_m0 92 rfl) rfl
theorem q110 : (Jvm.Cond.methodLink "GlobalMinCut" (67 : Nat) ({ cls := "GlobalMinCut", name := "phase", desc := "(I)I" } : Jvm.MethodName)) ∈ lw_all := lw_g (lw_at lw_m0 93 rfl) rfl
theorem q111 : (Jvm.Cond.privateMethod ({ cls := "GlobalMinCut", name := "phase", desc := "(I)I" } : Jvm.MethodName)) ∈ lw_tbl := lw_at lw_m0 94 rfl
theorem q112 : (Jvm.Cond.instanceMethod ({ cls := "GlobalMinCut", name := "phase", desc := "(I)I" } : Jvm.MethodName)) ∈ lw_all := lw_g (lw_at lw_m0 95 rfl) rfl
theorem q113 : (Jvm.Cond.code ({ cls := "GlobalMinCut", name := "phase", desc := "(I)I" } : Jvm.MethodName) prog_1_method_10_code (4 : Nat) (Option.some Jvm.ClassFile.FieldType.int)) ∈ lw_all := lw_g (lw_at lw_m0 96 rfl) rfl
theorem q114 : (Jvm.Cond.methodLink "GlobalMinCut" (62 : Nat) ({ cls := "GlobalMinCut", name := "mostHanging", desc := "()I" } : Jvm.MethodName)) ∈ lw_all := lw_g (lw_at lw_m0 97 rfl) rfl
theorem q115 : (Jvm.Cond.privateMethod ({ cls := "GlobalMinCut", name := "mostHanging", desc := "()I" } : Jvm.MethodName)) ∈ lw_tbl := lw_at lw_m0 98 rfl
theorem q116 : (Jvm.Cond.instanceMethod ({ cls := "GlobalMinCut", name := "mostHanging", desc := "()I" } : Jvm.MethodName)) ∈ lw_all := lw_g (lw_at lw_m0 99 rfl) rfl
theorem q117 : (Jvm.Cond.code ({ cls := "GlobalMinCut", name := "mostHanging", desc := "()I" } : Jvm.MethodName) prog_1_method_11_code (3 : Nat) (Option.some Jvm.ClassFile.FieldType.int)) ∈ lw_all := lw_g (lw_at lw_m0 100 rfl) rfl
theorem q118 : (Jvm.Cond.methodLink "GlobalMinCut" (71 : Nat) ({ cls := "GlobalMinCut", name := "mergeLastTwo", desc := "()V" } : Jvm.MethodName)) ∈ lw_all := lw_g (lw_at lw_m0 101 rfl) rfl
theorem q119 : (Jvm.Cond.privateMethod ({ cls := "GlobalMinCut", name := "mergeLastTwo", desc := "()V" } : Jvm.MethodName)) ∈ lw_tbl := lw_at lw_m0 102 rfl
theorem q120 : (Jvm.Cond.instanceMethod ({ cls := "GlobalMinCut", name := "mergeLastTwo", desc := "()V" } : Jvm.MethodName)) ∈ lw_all := lw_g (lw_at lw_m0 103 rfl) rfl
theorem q121 : (Jvm.Cond.code ({ cls := "GlobalMinCut", name := "mergeLastTwo", desc := "()V" } : Jvm.MethodName) prog_1_method_12_code (2 : Nat) (Option.none : Option Jvm.ClassFile.FieldType)) ∈ lw_all := lw_g (lw_at lw_m0 104 rfl) rfl
theorem q123 : (Jvm.Cond.instanceMethod ({ cls := "GlobalMinCut", name := "smallest", desc := "()I" } : Jvm.MethodName)) ∈ lw_all := lw_g (lw_at lw_m0 106 rfl) rfl
theorem q124 : (Jvm.Cond.selects "GlobalMinCut" ({ cls := "GlobalMinCut", name := "smallest", desc := "()I" } : Jvm.MethodName) ({ cls := "GlobalMinCut", name := "smallest", desc := "()I" } : Jvm.MethodName)) ∈ lw_all := lw_g (lw_at lw_m0 107 rfl) rfl
theorem q125 : (Jvm.Cond.code ({ cls := "GlobalMinCut", name := "smallest", desc := "()I" } : Jvm.MethodName) prog_1_method_19_code (6 : Nat) (Option.some Jvm.ClassFile.FieldType.int)) ∈ lw_all := lw_g (lw_at lw_m0 108 rfl) rfl
theorem q126 : (Jvm.Cond.methodLink "GlobalMinCut" (97 : Nat) ({ cls := "GlobalMinCut", name := "least", desc := "()I" } : Jvm.MethodName)) ∈ lw_all := lw_g (lw_at lw_m0 109 rfl) rfl
theorem q127 : (Jvm.Cond.methodLink "GlobalMinCut" (100 : Nat) ({ cls := "GlobalMinCut", name := "leastWith", desc := "(II)I" } : Jvm.MethodName)) ∈ lw_all := lw_g (lw_at lw_m0 110 rfl) rfl
theorem q128 : (Jvm.Cond.privateMethod ({ cls := "GlobalMinCut", name := "leastWith", desc := "(II)I" } : Jvm.MethodName)) ∈ lw_tbl := lw_at lw_m0 111 rfl
theorem q129 : (Jvm.Cond.instanceMethod ({ cls := "GlobalMinCut", name := "leastWith", desc := "(II)I" } : Jvm.MethodName)) ∈ lw_all := lw_g (lw_at lw_m0 112 rfl) rfl
theorem q130 : (Jvm.Cond.code ({ cls := "GlobalMinCut", name := "leastWith", desc := "(II)I" } : Jvm.MethodName) prog_1_method_18_code (4 : Nat) (Option.some Jvm.ClassFile.FieldType.int)) ∈ lw_all := lw_g (lw_at lw_m0 113 rfl) rfl
theorem q131 : (Jvm.Cond.methodLink "GlobalMinCut" (91 : Nat) ({ cls := "GlobalMinCut", name := "mergeSet", desc := "(I)V" } : Jvm.MethodName)) ∈ lw_all := lw_g (lw_at lw_m0 114 rfl) rfl
theorem q132 : (Jvm.Cond.privateMethod ({ cls := "GlobalMinCut", name := "mergeSet", desc := "(I)V" } : Jvm.MethodName)) ∈ lw_tbl := lw_at lw_m0 115 rfl
theorem q133 : (Jvm.Cond.instanceMethod ({ cls := "GlobalMinCut", name := "mergeSet", desc := "(I)V" } : Jvm.MethodName)) ∈ lw_all := lw_g (lw_at lw_m0 116 rfl) rfl
theorem q134 : (Jvm.Cond.code ({ cls := "GlobalMinCut", name := "mergeSet", desc := "(I)V" } : Jvm.MethodName) prog_1_method_8_code (4 : Nat) (Option.none : Option Jvm.ClassFile.FieldType)) ∈ lw_all := lw_g (lw_at lw_m0 117 rfl) rfl
theorem q135 : (Jvm.Cond.methodLink "GlobalMinCut" (94 : Nat) ({ cls := "GlobalMinCut", name := "leastBetween", desc := "(II)I" } : Jvm.MethodName)) ∈ lw_all := lw_g (lw_at lw_m0 118 rfl) rfl
theorem q136 : (Jvm.Cond.privateMethod ({ cls := "GlobalMinCut", name := "leastBetween", desc := "(II)I" } : Jvm.MethodName)) ∈ lw_tbl := lw_at lw_m0 119 rfl
theorem q137 : (Jvm.Cond.instanceMethod ({ cls := "GlobalMinCut", name := "leastBetween", desc := "(II)I" } : Jvm.MethodName)) ∈ lw_all := lw_g (lw_at lw_m0 120 rfl) rfl
theorem q138 : (Jvm.Cond.code ({ cls := "GlobalMinCut", name := "leastBetween", desc := "(II)I" } : Jvm.MethodName) prog_1_method_16_code (8 : Nat) (Option.some Jvm.ClassFile.FieldType.int)) ∈ lw_all := lw_g (lw_at lw_m0 121 rfl) rfl
theorem q139 : (Jvm.Cond.methodLink "GlobalMinCut" (74 : Nat) ({ cls := "GlobalMinCut", name := "findWay", desc := "(II)Z" } : Jvm.MethodName)) ∈ lw_all := lw_g (lw_at lw_m0 122 rfl) rfl
theorem q140 : (Jvm.Cond.privateMethod ({ cls := "GlobalMinCut", name := "findWay", desc := "(II)Z" } : Jvm.MethodName)) ∈ lw_tbl := lw_at lw_m0 123 rfl
theorem q141 : (Jvm.Cond.instanceMethod ({ cls := "GlobalMinCut", name := "findWay", desc := "(II)Z" } : Jvm.MethodName)) ∈ lw_all := lw_g (lw_at lw_m0 124 rfl) rfl
theorem q142 : (Jvm.Cond.code ({ cls := "GlobalMinCut", name := "findWay", desc := "(II)Z" } : Jvm.MethodName) prog_1_method_14_code (7 : Nat) (Option.some Jvm.ClassFile.FieldType.boolean)) ∈ lw_all := lw_g (lw_at lw_m0 125 rfl) rfl
theorem q143 : (Jvm.Cond.methodLink "GlobalMinCut" (77 : Nat) ({ cls := "GlobalMinCut", name := "sendAlong", desc := "(II)I" } : Jvm.MethodName)) ∈ lw_all := lw_g (lw_at lw_m0 126 rfl) rfl
theorem q144 : (Jvm.Cond.privateMethod ({ cls := "GlobalMinCut", name := "sendAlong", desc := "(II)I" } : Jvm.MethodName)) ∈ lw_tbl := lw_at lw_m0 127 rfl
theorem q145 : (Jvm.Cond.instanceMethod ({ cls := "GlobalMinCut", name := "sendAlong", desc := "(II)I" } : Jvm.MethodName)) ∈ lw_all := lw_g (lw_at lw_m0 128 rfl) rfl
theorem q146 : (Jvm.Cond.code ({ cls := "GlobalMinCut", name := "sendAlong", desc := "(II)I" } : Jvm.MethodName) prog_1_method_15_code (7 : Nat) (Option.some Jvm.ClassFile.FieldType.int)) ∈ lw_all := lw_g (lw_at lw_m0 129 rfl) rfl
theorem q148 : (Jvm.Cond.instanceMethod ({ cls := "GlobalMinCut", name := "between", desc := "(II)I" } : Jvm.MethodName)) ∈ lw_all := lw_g (lw_at lw_m0 131 rfl) rfl
theorem q149 : (Jvm.Cond.selects "GlobalMinCut" ({ cls := "GlobalMinCut", name := "between", desc := "(II)I" } : Jvm.MethodName) ({ cls := "GlobalMinCut", name := "between", desc := "(II)I" } : Jvm.MethodName)) ∈ lw_all := lw_g (lw_at lw_m0 132 rfl) rfl
theorem q150 : (Jvm.Cond.code ({ cls := "GlobalMinCut", name := "between", desc := "(II)I" } : Jvm.MethodName) prog_1_method_20_code (3 : Nat) (Option.some Jvm.ClassFile.FieldType.int)) ∈ lw_all := lw_g (lw_at lw_m0 133 rfl) rfl
theorem q152 : (Jvm.Cond.instanceMethod ({ cls := "GlobalMinCut", name := "value", desc := "(I)I" } : Jvm.MethodName)) ∈ lw_all := lw_g (lw_at lw_m0 135 rfl) rfl
theorem q153 : (Jvm.Cond.selects "GlobalMinCut" ({ cls := "GlobalMinCut", name := "value", desc := "(I)I" } : Jvm.MethodName) ({ cls := "GlobalMinCut", name := "value", desc := "(I)I" } : Jvm.MethodName)) ∈ lw_all := lw_g (lw_at lw_m0 136 rfl) rfl
theorem q154 : (Jvm.Cond.code ({ cls := "GlobalMinCut", name := "value", desc := "(I)I" } : Jvm.MethodName) prog_1_method_21_code (5 : Nat) (Option.some Jvm.ClassFile.FieldType.int)) ∈ lw_all := lw_g (lw_at lw_m0 137 rfl) rfl
theorem q156 : (Jvm.Cond.instanceMethod ({ cls := "GlobalMinCut", name := "separated", desc := "()I" } : Jvm.MethodName)) ∈ lw_all := lw_g (lw_at lw_m0 139 rfl) rfl
theorem q157 : (Jvm.Cond.selects "GlobalMinCut" ({ cls := "GlobalMinCut", name := "separated", desc := "()I" } : Jvm.MethodName) ({ cls := "GlobalMinCut", name := "separated", desc := "()I" } : Jvm.MethodName)) ∈ lw_all := lw_g (lw_at lw_m0 140 rfl) rfl
theorem q158 : (Jvm.Cond.code ({ cls := "GlobalMinCut", name := "separated", desc := "()I" } : Jvm.MethodName) prog_1_method_22_code (6 : Nat) (Option.some Jvm.ClassFile.FieldType.int)) ∈ lw_all := lw_g (lw_at lw_m0 141 rfl) rfl
theorem q160 : (Jvm.Cond.instanceMethod ({ cls := "GlobalMinCut", name := "without", desc := "(I)I" } : Jvm.MethodName)) ∈ lw_all := lw_g (lw_at lw_m0 143 rfl) rfl
theorem q161 : (Jvm.Cond.selects "GlobalMinCut" ({ cls := "GlobalMinCut", name := "without", desc := "(I)I" } : Jvm.MethodName) ({ cls := "GlobalMinCut", name := "without", desc := "(I)I" } : Jvm.MethodName)) ∈ lw_all := lw_g (lw_at lw_m0 144 rfl) rfl
theorem q162 : (Jvm.Cond.code ({ cls := "GlobalMinCut", name := "without", desc := "(I)I" } : Jvm.MethodName) prog_1_method_23_code (2 : Nat) (Option.some Jvm.ClassFile.FieldType.int)) ∈ lw_all := lw_g (lw_at lw_m0 145 rfl) rfl
theorem in_X1 : ∀ w ∈ wsX10, w ∈ lw_all := lw_in wsX10 [42, 44, 46, 48, 50, 52, 54, 56, 58, 60, 62, 64, 66, 68] (by decide +kernel) (by decide +kernel)
end
section
/-! GlobalMinCutModel -/
set_option maxRecDepth 100000
def RX2 : String := "GlobalMinCutModel"
def TX2 : u_T := fun k => match k with
  | 0 => ("GlobalMinCutModel", "n", "I", true)
  | 1 => ("GlobalMinCutModel", "w", "[I", true)
  | _ => ("GlobalMinCutModel", "glued", "[Z", true)
def tyX2 : Nat → FieldType := fun k => match k with
  | 0 => .int
  | 1 => .array .int
  | _ => .array .boolean
abbrev wsX20 : List Cond := u_ws RX2 TX2 3
theorem nmX2 : ∀ a, a < 3 → ∀ b, b < 3 → a ≠ b → (TX2 a).2.1 ≠ (TX2 b).2.1 := by decide +kernel
theorem tyX2_ok : ∀ k, k < 3 → parseFieldDescriptor (TX2 k).2.2.1 = some (tyX2 k) := by decide +kernel
abbrev cX2_init : ByteArray := prog_3_method_1_code
def yX2_init : MethodName := ⟨RX2, "<init>", "(I)V"⟩
theorem dX2_init_0 : decode cX2_init 0 = .ok (.aload_n 0, 1) := by decide +kernel
theorem dX2_init_1 : decode cX2_init 1 = .ok (.invokespecial 1, 3) := by decide +kernel
theorem dX2_init_4 : decode cX2_init 4 = .ok (.aload_n 0, 1) := by decide +kernel
theorem dX2_init_5 : decode cX2_init 5 = .ok (.bipush 81, 2) := by decide +kernel
theorem dX2_init_7 : decode cX2_init 7 = .ok (.newarray .int, 2) := by decide +kernel
theorem dX2_init_9 : decode cX2_init 9 = .ok (.putfield 7, 3) := by decide +kernel
theorem dX2_init_12 : decode cX2_init 12 = .ok (.aload_n 0, 1) := by decide +kernel
theorem dX2_init_13 : decode cX2_init 13 = .ok (.bipush 81, 2) := by decide +kernel
theorem dX2_init_15 : decode cX2_init 15 = .ok (.newarray .boolean, 2) := by decide +kernel
theorem dX2_init_17 : decode cX2_init 17 = .ok (.putfield 13, 3) := by decide +kernel
theorem dX2_init_20 : decode cX2_init 20 = .ok (.iload_n 1, 1) := by decide +kernel
theorem dX2_init_21 : decode cX2_init 21 = .ok (.istore_n 2, 1) := by decide +kernel
theorem dX2_init_22 : decode cX2_init 22 = .ok (.iload_n 2, 1) := by decide +kernel
theorem dX2_init_23 : decode cX2_init 23 = .ok (.iconst 2, 1) := by decide +kernel
theorem dX2_init_24 : decode cX2_init 24 = .ok (.if_icmp .ge 5, 3) := by decide +kernel
theorem dX2_init_27 : decode cX2_init 27 = .ok (.iconst 2, 1) := by decide +kernel
theorem dX2_init_28 : decode cX2_init 28 = .ok (.istore_n 2, 1) := by decide +kernel
theorem dX2_init_29 : decode cX2_init 29 = .ok (.iload_n 2, 1) := by decide +kernel
theorem dX2_init_30 : decode cX2_init 30 = .ok (.bipush 9, 2) := by decide +kernel
theorem dX2_init_32 : decode cX2_init 32 = .ok (.if_icmp .le 6, 3) := by decide +kernel
theorem dX2_init_35 : decode cX2_init 35 = .ok (.bipush 9, 2) := by decide +kernel
theorem dX2_init_37 : decode cX2_init 37 = .ok (.istore_n 2, 1) := by decide +kernel
theorem dX2_init_38 : decode cX2_init 38 = .ok (.aload_n 0, 1) := by decide +kernel
theorem dX2_init_39 : decode cX2_init 39 = .ok (.iload_n 2, 1) := by decide +kernel
theorem dX2_init_40 : decode cX2_init 40 = .ok (.putfield 17, 3) := by decide +kernel
theorem dX2_init_43 : decode cX2_init 43 = .ok (.return_, 1) := by decide +kernel
abbrev cX2_weight : ByteArray := prog_3_method_3_code
def yX2_weight : MethodName := ⟨RX2, "weight", "(III)I"⟩
theorem dX2_weight_0 : decode cX2_weight 0 = .ok (.aload_n 0, 1) := by decide +kernel
theorem dX2_weight_1 : decode cX2_weight 1 = .ok (.iload_n 1, 1) := by decide +kernel
theorem dX2_weight_2 : decode cX2_weight 2 = .ok (.iload_n 2, 1) := by decide +kernel
theorem dX2_weight_3 : decode cX2_weight 3 = .ok (.invokevirtual 21, 3) := by decide +kernel
theorem dX2_weight_6 : decode cX2_weight 6 = .ok (.ifCond .eq 5, 3) := by decide +kernel
theorem dX2_weight_9 : decode cX2_weight 9 = .ok (.iconst (-1), 1) := by decide +kernel
theorem dX2_weight_10 : decode cX2_weight 10 = .ok (.ireturn, 1) := by decide +kernel
theorem dX2_weight_11 : decode cX2_weight 11 = .ok (.iload_n 3, 1) := by decide +kernel
theorem dX2_weight_12 : decode cX2_weight 12 = .ok (.ifCond .lt 9, 3) := by decide +kernel
theorem dX2_weight_15 : decode cX2_weight 15 = .ok (.iload_n 3, 1) := by decide +kernel
theorem dX2_weight_16 : decode cX2_weight 16 = .ok (.bipush 50, 2) := by decide +kernel
theorem dX2_weight_18 : decode cX2_weight 18 = .ok (.if_icmp .le 6, 3) := by decide +kernel
theorem dX2_weight_21 : decode cX2_weight 21 = .ok (.bipush (-2), 2) := by decide +kernel
theorem dX2_weight_23 : decode cX2_weight 23 = .ok (.ireturn, 1) := by decide +kernel
theorem dX2_weight_24 : decode cX2_weight 24 = .ok (.aload_n 0, 1) := by decide +kernel
theorem dX2_weight_25 : decode cX2_weight 25 = .ok (.getfield 7, 3) := by decide +kernel
theorem dX2_weight_28 : decode cX2_weight 28 = .ok (.iload_n 1, 1) := by decide +kernel
theorem dX2_weight_29 : decode cX2_weight 29 = .ok (.bipush 9, 2) := by decide +kernel
theorem dX2_weight_31 : decode cX2_weight 31 = .ok (.imul, 1) := by decide +kernel
theorem dX2_weight_32 : decode cX2_weight 32 = .ok (.iload_n 2, 1) := by decide +kernel
theorem dX2_weight_33 : decode cX2_weight 33 = .ok (.iadd, 1) := by decide +kernel
theorem dX2_weight_34 : decode cX2_weight 34 = .ok (.iaload, 1) := by decide +kernel
theorem dX2_weight_35 : decode cX2_weight 35 = .ok (.istore 4, 2) := by decide +kernel
theorem dX2_weight_37 : decode cX2_weight 37 = .ok (.aload_n 0, 1) := by decide +kernel
theorem dX2_weight_38 : decode cX2_weight 38 = .ok (.getfield 7, 3) := by decide +kernel
theorem dX2_weight_41 : decode cX2_weight 41 = .ok (.iload_n 1, 1) := by decide +kernel
theorem dX2_weight_42 : decode cX2_weight 42 = .ok (.bipush 9, 2) := by decide +kernel
theorem dX2_weight_44 : decode cX2_weight 44 = .ok (.imul, 1) := by decide +kernel
theorem dX2_weight_45 : decode cX2_weight 45 = .ok (.iload_n 2, 1) := by decide +kernel
theorem dX2_weight_46 : decode cX2_weight 46 = .ok (.iadd, 1) := by decide +kernel
theorem dX2_weight_47 : decode cX2_weight 47 = .ok (.iload_n 3, 1) := by decide +kernel
theorem dX2_weight_48 : decode cX2_weight 48 = .ok (.iastore, 1) := by decide +kernel
theorem dX2_weight_49 : decode cX2_weight 49 = .ok (.aload_n 0, 1) := by decide +kernel
theorem dX2_weight_50 : decode cX2_weight 50 = .ok (.getfield 7, 3) := by decide +kernel
theorem dX2_weight_53 : decode cX2_weight 53 = .ok (.iload_n 2, 1) := by decide +kernel
theorem dX2_weight_54 : decode cX2_weight 54 = .ok (.bipush 9, 2) := by decide +kernel
theorem dX2_weight_56 : decode cX2_weight 56 = .ok (.imul, 1) := by decide +kernel
theorem dX2_weight_57 : decode cX2_weight 57 = .ok (.iload_n 1, 1) := by decide +kernel
theorem dX2_weight_58 : decode cX2_weight 58 = .ok (.iadd, 1) := by decide +kernel
theorem dX2_weight_59 : decode cX2_weight 59 = .ok (.iload_n 3, 1) := by decide +kernel
theorem dX2_weight_60 : decode cX2_weight 60 = .ok (.iastore, 1) := by decide +kernel
theorem dX2_weight_61 : decode cX2_weight 61 = .ok (.iload 4, 2) := by decide +kernel
theorem dX2_weight_63 : decode cX2_weight 63 = .ok (.ireturn, 1) := by decide +kernel
abbrev cX2_badPair : ByteArray := prog_3_method_2_code
def yX2_badPair : MethodName := ⟨RX2, "badPair", "(II)Z"⟩
theorem dX2_badPair_0 : decode cX2_badPair 0 = .ok (.iload_n 1, 1) := by decide +kernel
theorem dX2_badPair_1 : decode cX2_badPair 1 = .ok (.ifCond .lt 28, 3) := by decide +kernel
theorem dX2_badPair_4 : decode cX2_badPair 4 = .ok (.iload_n 1, 1) := by decide +kernel
theorem dX2_badPair_5 : decode cX2_badPair 5 = .ok (.aload_n 0, 1) := by decide +kernel
theorem dX2_badPair_6 : decode cX2_badPair 6 = .ok (.getfield 17, 3) := by decide +kernel
theorem dX2_badPair_9 : decode cX2_badPair 9 = .ok (.if_icmp .ge 20, 3) := by decide +kernel
theorem dX2_badPair_12 : decode cX2_badPair 12 = .ok (.iload_n 2, 1) := by decide +kernel
theorem dX2_badPair_13 : decode cX2_badPair 13 = .ok (.ifCond .lt 16, 3) := by decide +kernel
theorem dX2_badPair_16 : decode cX2_badPair 16 = .ok (.iload_n 2, 1) := by decide +kernel
theorem dX2_badPair_17 : decode cX2_badPair 17 = .ok (.aload_n 0, 1) := by decide +kernel
theorem dX2_badPair_18 : decode cX2_badPair 18 = .ok (.getfield 17, 3) := by decide +kernel
theorem dX2_badPair_21 : decode cX2_badPair 21 = .ok (.if_icmp .ge 8, 3) := by decide +kernel
theorem dX2_badPair_24 : decode cX2_badPair 24 = .ok (.iload_n 1, 1) := by decide +kernel
theorem dX2_badPair_25 : decode cX2_badPair 25 = .ok (.iload_n 2, 1) := by decide +kernel
theorem dX2_badPair_26 : decode cX2_badPair 26 = .ok (.if_icmp .ne 7, 3) := by decide +kernel
theorem dX2_badPair_29 : decode cX2_badPair 29 = .ok (.iconst 1, 1) := by decide +kernel
theorem dX2_badPair_30 : decode cX2_badPair 30 = .ok (.goto 4, 3) := by decide +kernel
theorem dX2_badPair_33 : decode cX2_badPair 33 = .ok (.iconst 0, 1) := by decide +kernel
theorem dX2_badPair_34 : decode cX2_badPair 34 = .ok (.ireturn, 1) := by decide +kernel
abbrev cX2_change : ByteArray := prog_3_method_4_code
def yX2_change : MethodName := ⟨RX2, "change", "(III)I"⟩
theorem dX2_change_0 : decode cX2_change 0 = .ok (.aload_n 0, 1) := by decide +kernel
theorem dX2_change_1 : decode cX2_change 1 = .ok (.iload_n 1, 1) := by decide +kernel
theorem dX2_change_2 : decode cX2_change 2 = .ok (.iload_n 2, 1) := by decide +kernel
theorem dX2_change_3 : decode cX2_change 3 = .ok (.invokevirtual 21, 3) := by decide +kernel
theorem dX2_change_6 : decode cX2_change 6 = .ok (.ifCond .eq 5, 3) := by decide +kernel
theorem dX2_change_9 : decode cX2_change 9 = .ok (.iconst (-1), 1) := by decide +kernel
theorem dX2_change_10 : decode cX2_change 10 = .ok (.ireturn, 1) := by decide +kernel
theorem dX2_change_11 : decode cX2_change 11 = .ok (.aload_n 0, 1) := by decide +kernel
theorem dX2_change_12 : decode cX2_change 12 = .ok (.getfield 7, 3) := by decide +kernel
theorem dX2_change_15 : decode cX2_change 15 = .ok (.iload_n 1, 1) := by decide +kernel
theorem dX2_change_16 : decode cX2_change 16 = .ok (.bipush 9, 2) := by decide +kernel
theorem dX2_change_18 : decode cX2_change 18 = .ok (.imul, 1) := by decide +kernel
theorem dX2_change_19 : decode cX2_change 19 = .ok (.iload_n 2, 1) := by decide +kernel
theorem dX2_change_20 : decode cX2_change 20 = .ok (.iadd, 1) := by decide +kernel
theorem dX2_change_21 : decode cX2_change 21 = .ok (.iaload, 1) := by decide +kernel
theorem dX2_change_22 : decode cX2_change 22 = .ok (.i2l, 1) := by decide +kernel
theorem dX2_change_23 : decode cX2_change 23 = .ok (.iload_n 3, 1) := by decide +kernel
theorem dX2_change_24 : decode cX2_change 24 = .ok (.i2l, 1) := by decide +kernel
theorem dX2_change_25 : decode cX2_change 25 = .ok (.ladd, 1) := by decide +kernel
theorem dX2_change_26 : decode cX2_change 26 = .ok (.lstore 4, 2) := by decide +kernel
theorem dX2_change_28 : decode cX2_change 28 = .ok (.lload 4, 2) := by decide +kernel
theorem dX2_change_30 : decode cX2_change 30 = .ok (.lconst 0, 1) := by decide +kernel
theorem dX2_change_31 : decode cX2_change 31 = .ok (.lcmp, 1) := by decide +kernel
theorem dX2_change_32 : decode cX2_change 32 = .ok (.ifCond .ge 7, 3) := by decide +kernel
theorem dX2_change_35 : decode cX2_change 35 = .ok (.iconst 0, 1) := by decide +kernel
theorem dX2_change_36 : decode cX2_change 36 = .ok (.goto 20, 3) := by decide +kernel
theorem dX2_change_39 : decode cX2_change 39 = .ok (.lload 4, 2) := by decide +kernel
theorem dX2_change_41 : decode cX2_change 41 = .ok (.ldc2_w 25, 3) := by decide +kernel
theorem dX2_change_44 : decode cX2_change 44 = .ok (.lcmp, 1) := by decide +kernel
theorem dX2_change_45 : decode cX2_change 45 = .ok (.ifCond .le 8, 3) := by decide +kernel
theorem dX2_change_48 : decode cX2_change 48 = .ok (.bipush 50, 2) := by decide +kernel
theorem dX2_change_50 : decode cX2_change 50 = .ok (.goto 6, 3) := by decide +kernel
theorem dX2_change_53 : decode cX2_change 53 = .ok (.lload 4, 2) := by decide +kernel
theorem dX2_change_55 : decode cX2_change 55 = .ok (.l2i, 1) := by decide +kernel
theorem dX2_change_56 : decode cX2_change 56 = .ok (.istore 6, 2) := by decide +kernel
theorem dX2_change_58 : decode cX2_change 58 = .ok (.aload_n 0, 1) := by decide +kernel
theorem dX2_change_59 : decode cX2_change 59 = .ok (.getfield 7, 3) := by decide +kernel
theorem dX2_change_62 : decode cX2_change 62 = .ok (.iload_n 1, 1) := by decide +kernel
theorem dX2_change_63 : decode cX2_change 63 = .ok (.bipush 9, 2) := by decide +kernel
theorem dX2_change_65 : decode cX2_change 65 = .ok (.imul, 1) := by decide +kernel
theorem dX2_change_66 : decode cX2_change 66 = .ok (.iload_n 2, 1) := by decide +kernel
theorem dX2_change_67 : decode cX2_change 67 = .ok (.iadd, 1) := by decide +kernel
theorem dX2_change_68 : decode cX2_change 68 = .ok (.iload 6, 2) := by decide +kernel
theorem dX2_change_70 : decode cX2_change 70 = .ok (.iastore, 1) := by decide +kernel
theorem dX2_change_71 : decode cX2_change 71 = .ok (.aload_n 0, 1) := by decide +kernel
theorem dX2_change_72 : decode cX2_change 72 = .ok (.getfield 7, 3) := by decide +kernel
theorem dX2_change_75 : decode cX2_change 75 = .ok (.iload_n 2, 1) := by decide +kernel
theorem dX2_change_76 : decode cX2_change 76 = .ok (.bipush 9, 2) := by decide +kernel
theorem dX2_change_78 : decode cX2_change 78 = .ok (.imul, 1) := by decide +kernel
theorem dX2_change_79 : decode cX2_change 79 = .ok (.iload_n 1, 1) := by decide +kernel
theorem dX2_change_80 : decode cX2_change 80 = .ok (.iadd, 1) := by decide +kernel
theorem dX2_change_81 : decode cX2_change 81 = .ok (.iload 6, 2) := by decide +kernel
theorem dX2_change_83 : decode cX2_change 83 = .ok (.iastore, 1) := by decide +kernel
theorem dX2_change_84 : decode cX2_change 84 = .ok (.iload 6, 2) := by decide +kernel
theorem dX2_change_86 : decode cX2_change 86 = .ok (.ireturn, 1) := by decide +kernel
abbrev cX2_glue : ByteArray := prog_3_method_5_code
def yX2_glue : MethodName := ⟨RX2, "glue", "(IIZ)I"⟩
theorem dX2_glue_0 : decode cX2_glue 0 = .ok (.aload_n 0, 1) := by decide +kernel
theorem dX2_glue_1 : decode cX2_glue 1 = .ok (.iload_n 1, 1) := by decide +kernel
theorem dX2_glue_2 : decode cX2_glue 2 = .ok (.iload_n 2, 1) := by decide +kernel
theorem dX2_glue_3 : decode cX2_glue 3 = .ok (.invokevirtual 21, 3) := by decide +kernel
theorem dX2_glue_6 : decode cX2_glue 6 = .ok (.ifCond .eq 5, 3) := by decide +kernel
theorem dX2_glue_9 : decode cX2_glue 9 = .ok (.iconst (-1), 1) := by decide +kernel
theorem dX2_glue_10 : decode cX2_glue 10 = .ok (.ireturn, 1) := by decide +kernel
theorem dX2_glue_11 : decode cX2_glue 11 = .ok (.aload_n 0, 1) := by decide +kernel
theorem dX2_glue_12 : decode cX2_glue 12 = .ok (.getfield 13, 3) := by decide +kernel
theorem dX2_glue_15 : decode cX2_glue 15 = .ok (.iload_n 1, 1) := by decide +kernel
theorem dX2_glue_16 : decode cX2_glue 16 = .ok (.bipush 9, 2) := by decide +kernel
theorem dX2_glue_18 : decode cX2_glue 18 = .ok (.imul, 1) := by decide +kernel
theorem dX2_glue_19 : decode cX2_glue 19 = .ok (.iload_n 2, 1) := by decide +kernel
theorem dX2_glue_20 : decode cX2_glue 20 = .ok (.iadd, 1) := by decide +kernel
theorem dX2_glue_21 : decode cX2_glue 21 = .ok (.baload, 1) := by decide +kernel
theorem dX2_glue_22 : decode cX2_glue 22 = .ok (.ifCond .eq 7, 3) := by decide +kernel
theorem dX2_glue_25 : decode cX2_glue 25 = .ok (.iconst 1, 1) := by decide +kernel
theorem dX2_glue_26 : decode cX2_glue 26 = .ok (.goto 4, 3) := by decide +kernel
theorem dX2_glue_29 : decode cX2_glue 29 = .ok (.iconst 0, 1) := by decide +kernel
theorem dX2_glue_30 : decode cX2_glue 30 = .ok (.istore 4, 2) := by decide +kernel
theorem dX2_glue_32 : decode cX2_glue 32 = .ok (.aload_n 0, 1) := by decide +kernel
theorem dX2_glue_33 : decode cX2_glue 33 = .ok (.getfield 13, 3) := by decide +kernel
theorem dX2_glue_36 : decode cX2_glue 36 = .ok (.iload_n 1, 1) := by decide +kernel
theorem dX2_glue_37 : decode cX2_glue 37 = .ok (.bipush 9, 2) := by decide +kernel
theorem dX2_glue_39 : decode cX2_glue 39 = .ok (.imul, 1) := by decide +kernel
theorem dX2_glue_40 : decode cX2_glue 40 = .ok (.iload_n 2, 1) := by decide +kernel
theorem dX2_glue_41 : decode cX2_glue 41 = .ok (.iadd, 1) := by decide +kernel
theorem dX2_glue_42 : decode cX2_glue 42 = .ok (.iload_n 3, 1) := by decide +kernel
theorem dX2_glue_43 : decode cX2_glue 43 = .ok (.bastore, 1) := by decide +kernel
theorem dX2_glue_44 : decode cX2_glue 44 = .ok (.aload_n 0, 1) := by decide +kernel
theorem dX2_glue_45 : decode cX2_glue 45 = .ok (.getfield 13, 3) := by decide +kernel
theorem dX2_glue_48 : decode cX2_glue 48 = .ok (.iload_n 2, 1) := by decide +kernel
theorem dX2_glue_49 : decode cX2_glue 49 = .ok (.bipush 9, 2) := by decide +kernel
theorem dX2_glue_51 : decode cX2_glue 51 = .ok (.imul, 1) := by decide +kernel
theorem dX2_glue_52 : decode cX2_glue 52 = .ok (.iload_n 1, 1) := by decide +kernel
theorem dX2_glue_53 : decode cX2_glue 53 = .ok (.iadd, 1) := by decide +kernel
theorem dX2_glue_54 : decode cX2_glue 54 = .ok (.iload_n 3, 1) := by decide +kernel
theorem dX2_glue_55 : decode cX2_glue 55 = .ok (.bastore, 1) := by decide +kernel
theorem dX2_glue_56 : decode cX2_glue 56 = .ok (.iload 4, 2) := by decide +kernel
theorem dX2_glue_58 : decode cX2_glue 58 = .ok (.ireturn, 1) := by decide +kernel
abbrev cX2_least : ByteArray := prog_3_method_9_code
def yX2_least : MethodName := ⟨RX2, "least", "()I"⟩
theorem dX2_least_0 : decode cX2_least 0 = .ok (.aload_n 0, 1) := by decide +kernel
theorem dX2_least_1 : decode cX2_least 1 = .ok (.iconst (-1), 1) := by decide +kernel
theorem dX2_least_2 : decode cX2_least 2 = .ok (.iconst (-1), 1) := by decide +kernel
theorem dX2_least_3 : decode cX2_least 3 = .ok (.iconst (-1), 1) := by decide +kernel
theorem dX2_least_4 : decode cX2_least 4 = .ok (.invokevirtual 35, 3) := by decide +kernel
theorem dX2_least_7 : decode cX2_least 7 = .ok (.ireturn, 1) := by decide +kernel
abbrev cX2_leastOf : ByteArray := prog_3_method_8_code
def yX2_leastOf : MethodName := ⟨RX2, "leastOf", "(III)I"⟩
theorem dX2_leastOf_0 : decode cX2_leastOf 0 = .ok (.bipush (-3), 2) := by decide +kernel
theorem dX2_leastOf_2 : decode cX2_leastOf 2 = .ok (.istore 4, 2) := by decide +kernel
theorem dX2_leastOf_4 : decode cX2_leastOf 4 = .ok (.iconst 0, 1) := by decide +kernel
theorem dX2_leastOf_5 : decode cX2_leastOf 5 = .ok (.istore 5, 2) := by decide +kernel
theorem dX2_leastOf_7 : decode cX2_leastOf 7 = .ok (.iload 5, 2) := by decide +kernel
theorem dX2_leastOf_9 : decode cX2_leastOf 9 = .ok (.iconst 1, 1) := by decide +kernel
theorem dX2_leastOf_10 : decode cX2_leastOf 10 = .ok (.aload_n 0, 1) := by decide +kernel
theorem dX2_leastOf_11 : decode cX2_leastOf 11 = .ok (.getfield 17, 3) := by decide +kernel
theorem dX2_leastOf_14 : decode cX2_leastOf 14 = .ok (.ishl, 1) := by decide +kernel
theorem dX2_leastOf_15 : decode cX2_leastOf 15 = .ok (.if_icmp .ge 58, 3) := by decide +kernel
theorem dX2_leastOf_18 : decode cX2_leastOf 18 = .ok (.iload_n 2, 1) := by decide +kernel
theorem dX2_leastOf_19 : decode cX2_leastOf 19 = .ok (.ifCond .lt 14, 3) := by decide +kernel
theorem dX2_leastOf_22 : decode cX2_leastOf 22 = .ok (.aload_n 0, 1) := by decide +kernel
theorem dX2_leastOf_23 : decode cX2_leastOf 23 = .ok (.iload 5, 2) := by decide +kernel
theorem dX2_leastOf_25 : decode cX2_leastOf 25 = .ok (.iload_n 2, 1) := by decide +kernel
theorem dX2_leastOf_26 : decode cX2_leastOf 26 = .ok (.iload_n 3, 1) := by decide +kernel
theorem dX2_leastOf_27 : decode cX2_leastOf 27 = .ok (.invokevirtual 27, 3) := by decide +kernel
theorem dX2_leastOf_30 : decode cX2_leastOf 30 = .ok (.ifCond .eq 37, 3) := by decide +kernel
theorem dX2_leastOf_33 : decode cX2_leastOf 33 = .ok (.aload_n 0, 1) := by decide +kernel
theorem dX2_leastOf_34 : decode cX2_leastOf 34 = .ok (.iload 5, 2) := by decide +kernel
theorem dX2_leastOf_36 : decode cX2_leastOf 36 = .ok (.iload_n 1, 1) := by decide +kernel
theorem dX2_leastOf_37 : decode cX2_leastOf 37 = .ok (.invokevirtual 31, 3) := by decide +kernel
theorem dX2_leastOf_40 : decode cX2_leastOf 40 = .ok (.istore 6, 2) := by decide +kernel
theorem dX2_leastOf_42 : decode cX2_leastOf 42 = .ok (.iload 6, 2) := by decide +kernel
theorem dX2_leastOf_44 : decode cX2_leastOf 44 = .ok (.bipush (-3), 2) := by decide +kernel
theorem dX2_leastOf_46 : decode cX2_leastOf 46 = .ok (.if_icmp .eq 21, 3) := by decide +kernel
theorem dX2_leastOf_49 : decode cX2_leastOf 49 = .ok (.iload 4, 2) := by decide +kernel
theorem dX2_leastOf_51 : decode cX2_leastOf 51 = .ok (.bipush (-3), 2) := by decide +kernel
theorem dX2_leastOf_53 : decode cX2_leastOf 53 = .ok (.if_icmp .eq 10, 3) := by decide +kernel
theorem dX2_leastOf_56 : decode cX2_leastOf 56 = .ok (.iload 6, 2) := by decide +kernel
theorem dX2_leastOf_58 : decode cX2_leastOf 58 = .ok (.iload 4, 2) := by decide +kernel
theorem dX2_leastOf_60 : decode cX2_leastOf 60 = .ok (.if_icmp .ge 7, 3) := by decide +kernel
theorem dX2_leastOf_63 : decode cX2_leastOf 63 = .ok (.iload 6, 2) := by decide +kernel
theorem dX2_leastOf_65 : decode cX2_leastOf 65 = .ok (.istore 4, 2) := by decide +kernel
theorem dX2_leastOf_67 : decode cX2_leastOf 67 = .ok (.iinc 5 1, 3) := by decide +kernel
theorem dX2_leastOf_70 : decode cX2_leastOf 70 = .ok (.goto (-63), 3) := by decide +kernel
theorem dX2_leastOf_73 : decode cX2_leastOf 73 = .ok (.iload 4, 2) := by decide +kernel
theorem dX2_leastOf_75 : decode cX2_leastOf 75 = .ok (.ireturn, 1) := by decide +kernel
abbrev cX2_separates : ByteArray := prog_3_method_6_code
def yX2_separates : MethodName := ⟨RX2, "separates", "(III)Z"⟩
theorem dX2_separates_0 : decode cX2_separates 0 = .ok (.iload_n 1, 1) := by decide +kernel
theorem dX2_separates_1 : decode cX2_separates 1 = .ok (.iload_n 2, 1) := by decide +kernel
theorem dX2_separates_2 : decode cX2_separates 2 = .ok (.ishr, 1) := by decide +kernel
theorem dX2_separates_3 : decode cX2_separates 3 = .ok (.iconst 1, 1) := by decide +kernel
theorem dX2_separates_4 : decode cX2_separates 4 = .ok (.iand, 1) := by decide +kernel
theorem dX2_separates_5 : decode cX2_separates 5 = .ok (.iload_n 1, 1) := by decide +kernel
theorem dX2_separates_6 : decode cX2_separates 6 = .ok (.iload_n 3, 1) := by decide +kernel
theorem dX2_separates_7 : decode cX2_separates 7 = .ok (.ishr, 1) := by decide +kernel
theorem dX2_separates_8 : decode cX2_separates 8 = .ok (.iconst 1, 1) := by decide +kernel
theorem dX2_separates_9 : decode cX2_separates 9 = .ok (.iand, 1) := by decide +kernel
theorem dX2_separates_10 : decode cX2_separates 10 = .ok (.if_icmp .eq 7, 3) := by decide +kernel
theorem dX2_separates_13 : decode cX2_separates 13 = .ok (.iconst 1, 1) := by decide +kernel
theorem dX2_separates_14 : decode cX2_separates 14 = .ok (.goto 4, 3) := by decide +kernel
theorem dX2_separates_17 : decode cX2_separates 17 = .ok (.iconst 0, 1) := by decide +kernel
theorem dX2_separates_18 : decode cX2_separates 18 = .ok (.ireturn, 1) := by decide +kernel
abbrev cX2_allowed : ByteArray := prog_3_method_7_code
def yX2_allowed : MethodName := ⟨RX2, "allowed", "(II)I"⟩
theorem dX2_allowed_0 : decode cX2_allowed 0 = .ok (.iconst 0, 1) := by decide +kernel
theorem dX2_allowed_1 : decode cX2_allowed 1 = .ok (.istore_n 3, 1) := by decide +kernel
theorem dX2_allowed_2 : decode cX2_allowed 2 = .ok (.iconst 0, 1) := by decide +kernel
theorem dX2_allowed_3 : decode cX2_allowed 3 = .ok (.istore 4, 2) := by decide +kernel
theorem dX2_allowed_5 : decode cX2_allowed 5 = .ok (.iconst 0, 1) := by decide +kernel
theorem dX2_allowed_6 : decode cX2_allowed 6 = .ok (.istore 5, 2) := by decide +kernel
theorem dX2_allowed_8 : decode cX2_allowed 8 = .ok (.iconst 0, 1) := by decide +kernel
theorem dX2_allowed_9 : decode cX2_allowed 9 = .ok (.istore 6, 2) := by decide +kernel
theorem dX2_allowed_11 : decode cX2_allowed 11 = .ok (.iload 6, 2) := by decide +kernel
theorem dX2_allowed_13 : decode cX2_allowed 13 = .ok (.aload_n 0, 1) := by decide +kernel
theorem dX2_allowed_14 : decode cX2_allowed 14 = .ok (.getfield 17, 3) := by decide +kernel
theorem dX2_allowed_17 : decode cX2_allowed 17 = .ok (.if_icmp .ge 104, 3) := by decide +kernel
theorem dX2_allowed_20 : decode cX2_allowed 20 = .ok (.iload 6, 2) := by decide +kernel
theorem dX2_allowed_22 : decode cX2_allowed 22 = .ok (.iload_n 2, 1) := by decide +kernel
theorem dX2_allowed_23 : decode cX2_allowed 23 = .ok (.if_icmp .eq 17, 3) := by decide +kernel
theorem dX2_allowed_26 : decode cX2_allowed 26 = .ok (.iload 4, 2) := by decide +kernel
theorem dX2_allowed_28 : decode cX2_allowed 28 = .ok (.iload_n 1, 1) := by decide +kernel
theorem dX2_allowed_29 : decode cX2_allowed 29 = .ok (.iload 6, 2) := by decide +kernel
theorem dX2_allowed_31 : decode cX2_allowed 31 = .ok (.ishr, 1) := by decide +kernel
theorem dX2_allowed_32 : decode cX2_allowed 32 = .ok (.iconst 1, 1) := by decide +kernel
theorem dX2_allowed_33 : decode cX2_allowed 33 = .ok (.iand, 1) := by decide +kernel
theorem dX2_allowed_34 : decode cX2_allowed 34 = .ok (.iadd, 1) := by decide +kernel
theorem dX2_allowed_35 : decode cX2_allowed 35 = .ok (.istore 4, 2) := by decide +kernel
theorem dX2_allowed_37 : decode cX2_allowed 37 = .ok (.iinc 5 1, 3) := by decide +kernel
theorem dX2_allowed_40 : decode cX2_allowed 40 = .ok (.iconst 0, 1) := by decide +kernel
theorem dX2_allowed_41 : decode cX2_allowed 41 = .ok (.istore 7, 2) := by decide +kernel
theorem dX2_allowed_43 : decode cX2_allowed 43 = .ok (.iload 7, 2) := by decide +kernel
theorem dX2_allowed_45 : decode cX2_allowed 45 = .ok (.iload 6, 2) := by decide +kernel
theorem dX2_allowed_47 : decode cX2_allowed 47 = .ok (.if_icmp .ge 68, 3) := by decide +kernel
theorem dX2_allowed_50 : decode cX2_allowed 50 = .ok (.iload 6, 2) := by decide +kernel
theorem dX2_allowed_52 : decode cX2_allowed 52 = .ok (.iload_n 2, 1) := by decide +kernel
theorem dX2_allowed_53 : decode cX2_allowed 53 = .ok (.if_icmp .eq 56, 3) := by decide +kernel
theorem dX2_allowed_56 : decode cX2_allowed 56 = .ok (.iload 7, 2) := by decide +kernel
theorem dX2_allowed_58 : decode cX2_allowed 58 = .ok (.iload_n 2, 1) := by decide +kernel
theorem dX2_allowed_59 : decode cX2_allowed 59 = .ok (.if_icmp .eq 50, 3) := by decide +kernel
theorem dX2_allowed_62 : decode cX2_allowed 62 = .ok (.aload_n 0, 1) := by decide +kernel
theorem dX2_allowed_63 : decode cX2_allowed 63 = .ok (.iload_n 1, 1) := by decide +kernel
theorem dX2_allowed_64 : decode cX2_allowed 64 = .ok (.iload 6, 2) := by decide +kernel
theorem dX2_allowed_66 : decode cX2_allowed 66 = .ok (.iload 7, 2) := by decide +kernel
theorem dX2_allowed_68 : decode cX2_allowed 68 = .ok (.invokevirtual 27, 3) := by decide +kernel
theorem dX2_allowed_71 : decode cX2_allowed 71 = .ok (.ifCond .eq 38, 3) := by decide +kernel
theorem dX2_allowed_74 : decode cX2_allowed 74 = .ok (.aload_n 0, 1) := by decide +kernel
theorem dX2_allowed_75 : decode cX2_allowed 75 = .ok (.getfield 13, 3) := by decide +kernel
theorem dX2_allowed_78 : decode cX2_allowed 78 = .ok (.iload 6, 2) := by decide +kernel
theorem dX2_allowed_80 : decode cX2_allowed 80 = .ok (.bipush 9, 2) := by decide +kernel
theorem dX2_allowed_82 : decode cX2_allowed 82 = .ok (.imul, 1) := by decide +kernel
theorem dX2_allowed_83 : decode cX2_allowed 83 = .ok (.iload 7, 2) := by decide +kernel
theorem dX2_allowed_85 : decode cX2_allowed 85 = .ok (.iadd, 1) := by decide +kernel
theorem dX2_allowed_86 : decode cX2_allowed 86 = .ok (.baload, 1) := by decide +kernel
theorem dX2_allowed_87 : decode cX2_allowed 87 = .ok (.ifCond .eq 6, 3) := by decide +kernel
theorem dX2_allowed_90 : decode cX2_allowed 90 = .ok (.bipush (-3), 2) := by decide +kernel
theorem dX2_allowed_92 : decode cX2_allowed 92 = .ok (.ireturn, 1) := by decide +kernel
theorem dX2_allowed_93 : decode cX2_allowed 93 = .ok (.iload_n 3, 1) := by decide +kernel
theorem dX2_allowed_94 : decode cX2_allowed 94 = .ok (.aload_n 0, 1) := by decide +kernel
theorem dX2_allowed_95 : decode cX2_allowed 95 = .ok (.getfield 7, 3) := by decide +kernel
theorem dX2_allowed_98 : decode cX2_allowed 98 = .ok (.iload 6, 2) := by decide +kernel
theorem dX2_allowed_100 : decode cX2_allowed 100 = .ok (.bipush 9, 2) := by decide +kernel
theorem dX2_allowed_102 : decode cX2_allowed 102 = .ok (.imul, 1) := by decide +kernel
theorem dX2_allowed_103 : decode cX2_allowed 103 = .ok (.iload 7, 2) := by decide +kernel
theorem dX2_allowed_105 : decode cX2_allowed 105 = .ok (.iadd, 1) := by decide +kernel
theorem dX2_allowed_106 : decode cX2_allowed 106 = .ok (.iaload, 1) := by decide +kernel
theorem dX2_allowed_107 : decode cX2_allowed 107 = .ok (.iadd, 1) := by decide +kernel
theorem dX2_allowed_108 : decode cX2_allowed 108 = .ok (.istore_n 3, 1) := by decide +kernel
theorem dX2_allowed_109 : decode cX2_allowed 109 = .ok (.iinc 7 1, 3) := by decide +kernel
theorem dX2_allowed_112 : decode cX2_allowed 112 = .ok (.goto (-69), 3) := by decide +kernel
theorem dX2_allowed_115 : decode cX2_allowed 115 = .ok (.iinc 6 1, 3) := by decide +kernel
theorem dX2_allowed_118 : decode cX2_allowed 118 = .ok (.goto (-107), 3) := by decide +kernel
theorem dX2_allowed_121 : decode cX2_allowed 121 = .ok (.iload 4, 2) := by decide +kernel
theorem dX2_allowed_123 : decode cX2_allowed 123 = .ok (.ifCond .eq 10, 3) := by decide +kernel
theorem dX2_allowed_126 : decode cX2_allowed 126 = .ok (.iload 4, 2) := by decide +kernel
theorem dX2_allowed_128 : decode cX2_allowed 128 = .ok (.iload 5, 2) := by decide +kernel
theorem dX2_allowed_130 : decode cX2_allowed 130 = .ok (.if_icmp .ne 8, 3) := by decide +kernel
theorem dX2_allowed_133 : decode cX2_allowed 133 = .ok (.bipush (-3), 2) := by decide +kernel
theorem dX2_allowed_135 : decode cX2_allowed 135 = .ok (.goto 4, 3) := by decide +kernel
theorem dX2_allowed_138 : decode cX2_allowed 138 = .ok (.iload_n 3, 1) := by decide +kernel
theorem dX2_allowed_139 : decode cX2_allowed 139 = .ok (.ireturn, 1) := by decide +kernel
abbrev cX2_smallest : ByteArray := prog_3_method_10_code
def yX2_smallest : MethodName := ⟨RX2, "smallest", "()I"⟩
theorem dX2_smallest_0 : decode cX2_smallest 0 = .ok (.aload_n 0, 1) := by decide +kernel
theorem dX2_smallest_1 : decode cX2_smallest 1 = .ok (.invokevirtual 39, 3) := by decide +kernel
theorem dX2_smallest_4 : decode cX2_smallest 4 = .ok (.istore_n 1, 1) := by decide +kernel
theorem dX2_smallest_5 : decode cX2_smallest 5 = .ok (.iconst 2, 1) := by decide +kernel
theorem dX2_smallest_6 : decode cX2_smallest 6 = .ok (.istore_n 2, 1) := by decide +kernel
theorem dX2_smallest_7 : decode cX2_smallest 7 = .ok (.iload_n 2, 1) := by decide +kernel
theorem dX2_smallest_8 : decode cX2_smallest 8 = .ok (.iconst 1, 1) := by decide +kernel
theorem dX2_smallest_9 : decode cX2_smallest 9 = .ok (.aload_n 0, 1) := by decide +kernel
theorem dX2_smallest_10 : decode cX2_smallest 10 = .ok (.getfield 17, 3) := by decide +kernel
theorem dX2_smallest_13 : decode cX2_smallest 13 = .ok (.ishl, 1) := by decide +kernel
theorem dX2_smallest_14 : decode cX2_smallest 14 = .ok (.if_icmp .ge 30, 3) := by decide +kernel
theorem dX2_smallest_17 : decode cX2_smallest 17 = .ok (.aload_n 0, 1) := by decide +kernel
theorem dX2_smallest_18 : decode cX2_smallest 18 = .ok (.iload_n 2, 1) := by decide +kernel
theorem dX2_smallest_19 : decode cX2_smallest 19 = .ok (.iconst (-1), 1) := by decide +kernel
theorem dX2_smallest_20 : decode cX2_smallest 20 = .ok (.invokevirtual 31, 3) := by decide +kernel
theorem dX2_smallest_23 : decode cX2_smallest 23 = .ok (.istore_n 3, 1) := by decide +kernel
theorem dX2_smallest_24 : decode cX2_smallest 24 = .ok (.iload_n 3, 1) := by decide +kernel
theorem dX2_smallest_25 : decode cX2_smallest 25 = .ok (.bipush (-3), 2) := by decide +kernel
theorem dX2_smallest_27 : decode cX2_smallest 27 = .ok (.if_icmp .eq 10, 3) := by decide +kernel
theorem dX2_smallest_30 : decode cX2_smallest 30 = .ok (.iload_n 3, 1) := by decide +kernel
theorem dX2_smallest_31 : decode cX2_smallest 31 = .ok (.iload_n 1, 1) := by decide +kernel
theorem dX2_smallest_32 : decode cX2_smallest 32 = .ok (.if_icmp .ne 5, 3) := by decide +kernel
theorem dX2_smallest_35 : decode cX2_smallest 35 = .ok (.iload_n 2, 1) := by decide +kernel
theorem dX2_smallest_36 : decode cX2_smallest 36 = .ok (.ireturn, 1) := by decide +kernel
theorem dX2_smallest_37 : decode cX2_smallest 37 = .ok (.iload_n 2, 1) := by decide +kernel
theorem dX2_smallest_38 : decode cX2_smallest 38 = .ok (.iconst 2, 1) := by decide +kernel
theorem dX2_smallest_39 : decode cX2_smallest 39 = .ok (.iadd, 1) := by decide +kernel
theorem dX2_smallest_40 : decode cX2_smallest 40 = .ok (.istore_n 2, 1) := by decide +kernel
theorem dX2_smallest_41 : decode cX2_smallest 41 = .ok (.goto (-34), 3) := by decide +kernel
theorem dX2_smallest_44 : decode cX2_smallest 44 = .ok (.bipush (-3), 2) := by decide +kernel
theorem dX2_smallest_46 : decode cX2_smallest 46 = .ok (.ireturn, 1) := by decide +kernel
abbrev cX2_between : ByteArray := prog_3_method_11_code
def yX2_between : MethodName := ⟨RX2, "between", "(II)I"⟩
theorem dX2_between_0 : decode cX2_between 0 = .ok (.aload_n 0, 1) := by decide +kernel
theorem dX2_between_1 : decode cX2_between 1 = .ok (.iload_n 1, 1) := by decide +kernel
theorem dX2_between_2 : decode cX2_between 2 = .ok (.iload_n 2, 1) := by decide +kernel
theorem dX2_between_3 : decode cX2_between 3 = .ok (.invokevirtual 21, 3) := by decide +kernel
theorem dX2_between_6 : decode cX2_between 6 = .ok (.ifCond .eq 7, 3) := by decide +kernel
theorem dX2_between_9 : decode cX2_between 9 = .ok (.iconst (-1), 1) := by decide +kernel
theorem dX2_between_10 : decode cX2_between 10 = .ok (.goto 10, 3) := by decide +kernel
theorem dX2_between_13 : decode cX2_between 13 = .ok (.aload_n 0, 1) := by decide +kernel
theorem dX2_between_14 : decode cX2_between 14 = .ok (.iconst (-1), 1) := by decide +kernel
theorem dX2_between_15 : decode cX2_between 15 = .ok (.iload_n 1, 1) := by decide +kernel
theorem dX2_between_16 : decode cX2_between 16 = .ok (.iload_n 2, 1) := by decide +kernel
theorem dX2_between_17 : decode cX2_between 17 = .ok (.invokevirtual 35, 3) := by decide +kernel
theorem dX2_between_20 : decode cX2_between 20 = .ok (.ireturn, 1) := by decide +kernel
abbrev cX2_value : ByteArray := prog_3_method_12_code
def yX2_value : MethodName := ⟨RX2, "value", "(I)I"⟩
theorem dX2_value_0 : decode cX2_value 0 = .ok (.iconst 0, 1) := by decide +kernel
theorem dX2_value_1 : decode cX2_value 1 = .ok (.istore_n 2, 1) := by decide +kernel
theorem dX2_value_2 : decode cX2_value 2 = .ok (.iconst 0, 1) := by decide +kernel
theorem dX2_value_3 : decode cX2_value 3 = .ok (.istore_n 3, 1) := by decide +kernel
theorem dX2_value_4 : decode cX2_value 4 = .ok (.iload_n 3, 1) := by decide +kernel
theorem dX2_value_5 : decode cX2_value 5 = .ok (.aload_n 0, 1) := by decide +kernel
theorem dX2_value_6 : decode cX2_value 6 = .ok (.getfield 17, 3) := by decide +kernel
theorem dX2_value_9 : decode cX2_value 9 = .ok (.if_icmp .ge 50, 3) := by decide +kernel
theorem dX2_value_12 : decode cX2_value 12 = .ok (.iconst 0, 1) := by decide +kernel
theorem dX2_value_13 : decode cX2_value 13 = .ok (.istore 4, 2) := by decide +kernel
theorem dX2_value_15 : decode cX2_value 15 = .ok (.iload 4, 2) := by decide +kernel
theorem dX2_value_17 : decode cX2_value 17 = .ok (.iload_n 3, 1) := by decide +kernel
theorem dX2_value_18 : decode cX2_value 18 = .ok (.if_icmp .ge 35, 3) := by decide +kernel
theorem dX2_value_21 : decode cX2_value 21 = .ok (.aload_n 0, 1) := by decide +kernel
theorem dX2_value_22 : decode cX2_value 22 = .ok (.iload_n 1, 1) := by decide +kernel
theorem dX2_value_23 : decode cX2_value 23 = .ok (.iload_n 3, 1) := by decide +kernel
theorem dX2_value_24 : decode cX2_value 24 = .ok (.iload 4, 2) := by decide +kernel
theorem dX2_value_26 : decode cX2_value 26 = .ok (.invokevirtual 27, 3) := by decide +kernel
theorem dX2_value_29 : decode cX2_value 29 = .ok (.ifCond .eq 18, 3) := by decide +kernel
theorem dX2_value_32 : decode cX2_value 32 = .ok (.iload_n 2, 1) := by decide +kernel
theorem dX2_value_33 : decode cX2_value 33 = .ok (.aload_n 0, 1) := by decide +kernel
theorem dX2_value_34 : decode cX2_value 34 = .ok (.getfield 7, 3) := by decide +kernel
theorem dX2_value_37 : decode cX2_value 37 = .ok (.iload_n 3, 1) := by decide +kernel
theorem dX2_value_38 : decode cX2_value 38 = .ok (.bipush 9, 2) := by decide +kernel
theorem dX2_value_40 : decode cX2_value 40 = .ok (.imul, 1) := by decide +kernel
theorem dX2_value_41 : decode cX2_value 41 = .ok (.iload 4, 2) := by decide +kernel
theorem dX2_value_43 : decode cX2_value 43 = .ok (.iadd, 1) := by decide +kernel
theorem dX2_value_44 : decode cX2_value 44 = .ok (.iaload, 1) := by decide +kernel
theorem dX2_value_45 : decode cX2_value 45 = .ok (.iadd, 1) := by decide +kernel
theorem dX2_value_46 : decode cX2_value 46 = .ok (.istore_n 2, 1) := by decide +kernel
theorem dX2_value_47 : decode cX2_value 47 = .ok (.iinc 4 1, 3) := by decide +kernel
theorem dX2_value_50 : decode cX2_value 50 = .ok (.goto (-35), 3) := by decide +kernel
theorem dX2_value_53 : decode cX2_value 53 = .ok (.iinc 3 1, 3) := by decide +kernel
theorem dX2_value_56 : decode cX2_value 56 = .ok (.goto (-52), 3) := by decide +kernel
theorem dX2_value_59 : decode cX2_value 59 = .ok (.iload_n 2, 1) := by decide +kernel
theorem dX2_value_60 : decode cX2_value 60 = .ok (.ireturn, 1) := by decide +kernel
abbrev cX2_separated : ByteArray := prog_3_method_13_code
def yX2_separated : MethodName := ⟨RX2, "separated", "()I"⟩
theorem dX2_separated_0 : decode cX2_separated 0 = .ok (.aload_n 0, 1) := by decide +kernel
theorem dX2_separated_1 : decode cX2_separated 1 = .ok (.invokevirtual 39, 3) := by decide +kernel
theorem dX2_separated_4 : decode cX2_separated 4 = .ok (.istore_n 1, 1) := by decide +kernel
theorem dX2_separated_5 : decode cX2_separated 5 = .ok (.iconst 0, 1) := by decide +kernel
theorem dX2_separated_6 : decode cX2_separated 6 = .ok (.istore_n 2, 1) := by decide +kernel
theorem dX2_separated_7 : decode cX2_separated 7 = .ok (.iconst 0, 1) := by decide +kernel
theorem dX2_separated_8 : decode cX2_separated 8 = .ok (.istore_n 3, 1) := by decide +kernel
theorem dX2_separated_9 : decode cX2_separated 9 = .ok (.iload_n 3, 1) := by decide +kernel
theorem dX2_separated_10 : decode cX2_separated 10 = .ok (.aload_n 0, 1) := by decide +kernel
theorem dX2_separated_11 : decode cX2_separated 11 = .ok (.getfield 17, 3) := by decide +kernel
theorem dX2_separated_14 : decode cX2_separated 14 = .ok (.if_icmp .ge 45, 3) := by decide +kernel
theorem dX2_separated_17 : decode cX2_separated 17 = .ok (.iconst 0, 1) := by decide +kernel
theorem dX2_separated_18 : decode cX2_separated 18 = .ok (.istore 4, 2) := by decide +kernel
theorem dX2_separated_20 : decode cX2_separated 20 = .ok (.iload 4, 2) := by decide +kernel
theorem dX2_separated_22 : decode cX2_separated 22 = .ok (.iload_n 3, 1) := by decide +kernel
theorem dX2_separated_23 : decode cX2_separated 23 = .ok (.if_icmp .ge 30, 3) := by decide +kernel
theorem dX2_separated_26 : decode cX2_separated 26 = .ok (.iload_n 1, 1) := by decide +kernel
theorem dX2_separated_27 : decode cX2_separated 27 = .ok (.bipush (-3), 2) := by decide +kernel
theorem dX2_separated_29 : decode cX2_separated 29 = .ok (.if_icmp .eq 18, 3) := by decide +kernel
theorem dX2_separated_32 : decode cX2_separated 32 = .ok (.aload_n 0, 1) := by decide +kernel
theorem dX2_separated_33 : decode cX2_separated 33 = .ok (.iconst (-1), 1) := by decide +kernel
theorem dX2_separated_34 : decode cX2_separated 34 = .ok (.iload_n 3, 1) := by decide +kernel
theorem dX2_separated_35 : decode cX2_separated 35 = .ok (.iload 4, 2) := by decide +kernel
theorem dX2_separated_37 : decode cX2_separated 37 = .ok (.invokevirtual 35, 3) := by decide +kernel
theorem dX2_separated_40 : decode cX2_separated 40 = .ok (.iload_n 1, 1) := by decide +kernel
theorem dX2_separated_41 : decode cX2_separated 41 = .ok (.if_icmp .ne 6, 3) := by decide +kernel
theorem dX2_separated_44 : decode cX2_separated 44 = .ok (.iinc 2 1, 3) := by decide +kernel
theorem dX2_separated_47 : decode cX2_separated 47 = .ok (.iinc 4 1, 3) := by decide +kernel
theorem dX2_separated_50 : decode cX2_separated 50 = .ok (.goto (-30), 3) := by decide +kernel
theorem dX2_separated_53 : decode cX2_separated 53 = .ok (.iinc 3 1, 3) := by decide +kernel
theorem dX2_separated_56 : decode cX2_separated 56 = .ok (.goto (-47), 3) := by decide +kernel
theorem dX2_separated_59 : decode cX2_separated 59 = .ok (.iload_n 2, 1) := by decide +kernel
theorem dX2_separated_60 : decode cX2_separated 60 = .ok (.ireturn, 1) := by decide +kernel
abbrev cX2_without : ByteArray := prog_3_method_14_code
def yX2_without : MethodName := ⟨RX2, "without", "(I)I"⟩
theorem dX2_without_0 : decode cX2_without 0 = .ok (.iload_n 1, 1) := by decide +kernel
theorem dX2_without_1 : decode cX2_without 1 = .ok (.ifCond .lt 11, 3) := by decide +kernel
theorem dX2_without_4 : decode cX2_without 4 = .ok (.iload_n 1, 1) := by decide +kernel
theorem dX2_without_5 : decode cX2_without 5 = .ok (.aload_n 0, 1) := by decide +kernel
theorem dX2_without_6 : decode cX2_without 6 = .ok (.getfield 17, 3) := by decide +kernel
theorem dX2_without_9 : decode cX2_without 9 = .ok (.if_icmp .lt 5, 3) := by decide +kernel
theorem dX2_without_12 : decode cX2_without 12 = .ok (.iconst (-1), 1) := by decide +kernel
theorem dX2_without_13 : decode cX2_without 13 = .ok (.ireturn, 1) := by decide +kernel
theorem dX2_without_14 : decode cX2_without 14 = .ok (.aload_n 0, 1) := by decide +kernel
theorem dX2_without_15 : decode cX2_without 15 = .ok (.iload_n 1, 1) := by decide +kernel
theorem dX2_without_16 : decode cX2_without 16 = .ok (.iconst (-1), 1) := by decide +kernel
theorem dX2_without_17 : decode cX2_without 17 = .ok (.iconst (-1), 1) := by decide +kernel
theorem dX2_without_18 : decode cX2_without 18 = .ok (.invokevirtual 35, 3) := by decide +kernel
theorem dX2_without_21 : decode cX2_without 21 = .ok (.ireturn, 1) := by decide +kernel
theorem q19 : (Jvm.Cond.initialized "GlobalMinCutModel") ∈ lw_all := lw_g (lw_at lw_m0 2 rfl) rfl
theorem q167 : (Jvm.Cond.instantiable "GlobalMinCutModel" (3 : Nat)) ∈ lw_all := lw_g (lw_at lw_m0 150 rfl) rfl
theorem q169 : (Jvm.Cond.instanceMethod ({ cls := "GlobalMinCutModel", name := "<init>", desc := "(I)V" } : Jvm.MethodName)) ∈ lw_all := lw_g (lw_at lw_m0 152 rfl) rfl
theorem q170 : (Jvm.Cond.code ({ cls := "GlobalMinCutModel", name := "<init>", desc := "(I)V" } : Jvm.MethodName) prog_3_method_1_code (3 : Nat) (Option.none : Option Jvm.ClassFile.FieldType)) ∈ lw_all := lw_g (lw_at lw_m0 153 rfl) rfl
theorem q171 : (Jvm.Cond.methodLink "GlobalMinCutModel" (1 : Nat) ({ cls := "java/lang/Object", name := "<init>", desc := "()V" } : Jvm.MethodName)) ∈ lw_all := lw_g (lw_at lw_m0 154 rfl) rfl
theorem q172 : (Jvm.Cond.fieldLink "GlobalMinCutModel" (17 : Nat) "GlobalMinCutModel" "n" "I") ∈ lw_all := lw_g (lw_at lw_m0 155 rfl) rfl
theorem q173 : (Jvm.Cond.fieldLink "GlobalMinCutModel" (7 : Nat) "GlobalMinCutModel" "w" "[I") ∈ lw_all := lw_g (lw_at lw_m0 156 rfl) rfl
theorem q174 : (Jvm.Cond.fieldLink "GlobalMinCutModel" (13 : Nat) "GlobalMinCutModel" "glued" "[Z") ∈ lw_all := lw_g (lw_at lw_m0 157 rfl) rfl
theorem q175 : (Jvm.Cond.laysFinal "GlobalMinCutModel" "GlobalMinCutModel" "n" "I") ∈ lw_all := lw_g (lw_at lw_m0 158 rfl) rfl
theorem q176 : (Jvm.Cond.soleField "GlobalMinCutModel" "n") ∈ lw_all := lw_g (lw_at lw_m0 159 rfl) rfl
theorem q177 : (Jvm.Cond.laysFinal "GlobalMinCutModel" "GlobalMinCutModel" "w" "[I") ∈ lw_all := lw_g (lw_at lw_m0 160 rfl) rfl
theorem q178 : (Jvm.Cond.soleField "GlobalMinCutModel" "w") ∈ lw_all := lw_g (lw_at lw_m0 161 rfl) rfl
theorem q179 : (Jvm.Cond.laysFinal "GlobalMinCutModel" "GlobalMinCutModel" "glued" "[Z") ∈ lw_all := lw_g (lw_at lw_m0 162 rfl) rfl
theorem q180 : (Jvm.Cond.soleField "GlobalMinCutModel" "glued") ∈ lw_all := lw_g (lw_at lw_m0 163 rfl) rfl
theorem q181 : (Jvm.Cond.superclass "GlobalMinCutModel" "java/lang/Object") ∈ lw_all := lw_g (lw_at lw_m0 164 rfl) rfl
theorem q183 : (Jvm.Cond.instanceMethod ({ cls := "GlobalMinCutModel", name := "weight", desc := "(III)I" } : Jvm.MethodName)) ∈ lw_all := lw_g (lw_at lw_m0 166 rfl) rfl
theorem q184 : (Jvm.Cond.selects "GlobalMinCutModel" ({ cls := "GlobalMinCutModel", name := "weight", desc := "(III)I" } : Jvm.MethodName) ({ cls := "GlobalMinCutModel", name := "weight", desc := "(III)I" } : Jvm.MethodName)) ∈ lw_all := lw_g (lw_at lw_m0 167 rfl) rfl
theorem q185 : (Jvm.Cond.code ({ cls := "GlobalMinCutModel", name := "weight", desc := "(III)I" } : Jvm.MethodName) prog_3_method_3_code (5 : Nat) (Option.some Jvm.ClassFile.FieldType.int)) ∈ lw_all := lw_g (lw_at lw_m0 168 rfl) rfl
theorem q186 : (Jvm.Cond.methodLink "GlobalMinCutModel" (21 : Nat) ({ cls := "GlobalMinCutModel", name := "badPair", desc := "(II)Z" } : Jvm.MethodName)) ∈ lw_all := lw_g (lw_at lw_m0 169 rfl) rfl
theorem q187 : (Jvm.Cond.privateMethod ({ cls := "GlobalMinCutModel", name := "badPair", desc := "(II)Z" } : Jvm.MethodName)) ∈ lw_tbl := lw_at lw_m0 170 rfl
theorem q188 : (Jvm.Cond.instanceMethod ({ cls := "GlobalMinCutModel", name := "badPair", desc := "(II)Z" } : Jvm.MethodName)) ∈ lw_all := lw_g (lw_at lw_m0 171 rfl) rfl
theorem q189 : (Jvm.Cond.code ({ cls := "GlobalMinCutModel", name := "badPair", desc := "(II)Z" } : Jvm.MethodName) prog_3_method_2_code (3 : Nat) (Option.some Jvm.ClassFile.FieldType.boolean)) ∈ lw_all := lw_g (lw_at lw_m0 172 rfl) rfl
theorem q191 : (Jvm.Cond.instanceMethod ({ cls := "GlobalMinCutModel", name := "change", desc := "(III)I" } : Jvm.MethodName)) ∈ lw_all := lw_g (lw_at lw_m0 174 rfl) rfl
theorem q192 : (Jvm.Cond.selects "GlobalMinCutModel" ({ cls := "GlobalMinCutModel", name := "change", desc := "(III)I" } : Jvm.MethodName) ({ cls := "GlobalMinCutModel", name := "change", desc := "(III)I" } : Jvm.MethodName)) ∈ lw_all := lw_g (lw_at lw_m0 175 rfl) rfl
theorem q193 : (Jvm.Cond.code ({ cls := "GlobalMinCutModel", name := "change", desc := "(III)I" } : Jvm.MethodName) prog_3_method_4_code (7 : Nat) (Option.some Jvm.ClassFile.FieldType.int)) ∈ lw_all := lw_g (lw_at lw_m0 176 rfl) rfl
theorem q194 : (Jvm.Cond.constantLong "GlobalMinCutModel" (25 : Nat) (50 : Int64)) ∈ lw_all := lw_g (lw_at lw_m0 177 rfl) rfl
theorem q196 : (Jvm.Cond.instanceMethod ({ cls := "GlobalMinCutModel", name := "glue", desc := "(IIZ)I" } : Jvm.MethodName)) ∈ lw_all := lw_g (lw_at lw_m0 179 rfl) rfl
theorem q197 : (Jvm.Cond.selects "GlobalMinCutModel" ({ cls := "GlobalMinCutModel", name := "glue", desc := "(IIZ)I" } : Jvm.MethodName) ({ cls := "GlobalMinCutModel", name := "glue", desc := "(IIZ)I" } : Jvm.MethodName)) ∈ lw_all := lw_g (lw_at lw_m0 180 rfl) rfl
theorem q198 : (Jvm.Cond.code ({ cls := "GlobalMinCutModel", name := "glue", desc := "(IIZ)I" } : Jvm.MethodName) prog_3_method_5_code (5 : Nat) (Option.some Jvm.ClassFile.FieldType.int)) ∈ lw_all := lw_g (lw_at lw_m0 181 rfl) rfl
theorem q200 : (Jvm.Cond.instanceMethod ({ cls := "GlobalMinCutModel", name := "least", desc := "()I" } : Jvm.MethodName)) ∈ lw_all := lw_g (lw_at lw_m0 183 rfl) rfl
theorem q201 : (Jvm.Cond.selects "GlobalMinCutModel" ({ cls := "GlobalMinCutModel", name := "least", desc := "()I" } : Jvm.MethodName) ({ cls := "GlobalMinCutModel", name := "least", desc := "()I" } : Jvm.MethodName)) ∈ lw_all := lw_g (lw_at lw_m0 184 rfl) rfl
theorem q202 : (Jvm.Cond.code ({ cls := "GlobalMinCutModel", name := "least", desc := "()I" } : Jvm.MethodName) prog_3_method_9_code (1 : Nat) (Option.some Jvm.ClassFile.FieldType.int)) ∈ lw_all := lw_g (lw_at lw_m0 185 rfl) rfl
theorem q203 : (Jvm.Cond.methodLink "GlobalMinCutModel" (35 : Nat) ({ cls := "GlobalMinCutModel", name := "leastOf", desc := "(III)I" } : Jvm.MethodName)) ∈ lw_all := lw_g (lw_at lw_m0 186 rfl) rfl
theorem q204 : (Jvm.Cond.privateMethod ({ cls := "GlobalMinCutModel", name := "leastOf", desc := "(III)I" } : Jvm.MethodName)) ∈ lw_tbl := lw_at lw_m0 187 rfl
theorem q205 : (Jvm.Cond.instanceMethod ({ cls := "GlobalMinCutModel", name := "leastOf", desc := "(III)I" } : Jvm.MethodName)) ∈ lw_all := lw_g (lw_at lw_m0 188 rfl) rfl
theorem q206 : (Jvm.Cond.code ({ cls := "GlobalMinCutModel", name := "leastOf", desc := "(III)I" } : Jvm.MethodName) prog_3_method_8_code (7 : Nat) (Option.some Jvm.ClassFile.FieldType.int)) ∈ lw_all := lw_g (lw_at lw_m0 189 rfl) rfl
theorem q207 : (Jvm.Cond.methodLink "GlobalMinCutModel" (27 : Nat) ({ cls := "GlobalMinCutModel", name := "separates", desc := "(III)Z" } : Jvm.MethodName)) ∈ lw_all := lw_g (lw_at lw_m0 190 rfl) rfl
theorem q208 : (Jvm.Cond.privateMethod ({ cls := "GlobalMinCutModel", name := "separates", desc := "(III)Z" } : Jvm.MethodName)) ∈ lw_tbl := lw_at lw_m0 191 rfl
theorem q209 : (Jvm.Cond.instanceMethod ({ cls := "GlobalMinCutModel", name := "separates", desc := "(III)Z" } : Jvm.MethodName)) ∈ lw_all := lw_g (lw_at lw_m0 192 rfl) rfl
theorem q210 : (Jvm.Cond.code ({ cls := "GlobalMinCutModel", name := "separates", desc := "(III)Z" } : Jvm.MethodName) prog_3_method_6_code (4 : Nat) (Option.some Jvm.ClassFile.FieldType.boolean)) ∈ lw_all := lw_g (lw_at lw_m0 193 rfl) rfl
theorem q211 : (Jvm.Cond.methodLink "GlobalMinCutModel" (31 : Nat) ({ cls := "GlobalMinCutModel", name := "allowed", desc := "(II)I" } : Jvm.MethodName)) ∈ lw_all := lw_g (lw_at lw_m0 194 rfl) rfl
theorem q212 : (Jvm.Cond.privateMethod ({ cls := "GlobalMinCutModel", name := "allowed", desc := "(II)I" } : Jvm.MethodName)) ∈ lw_tbl := lw_at lw_m0 195 rfl
theorem q213 : (Jvm.Cond.instanceMethod ({ cls := "GlobalMinCutModel", name := "allowed", desc := "(II)I" } : Jvm.MethodName)) ∈ lw_all := lw_g (lw_at lw_m0 196 rfl) rfl
theorem q214 : (Jvm.Cond.code ({ cls := "GlobalMinCutModel", name := "allowed", desc := "(II)I" } : Jvm.MethodName) prog_3_method_7_code (8 : Nat) (Option.some Jvm.ClassFile.FieldType.int)) ∈ lw_all := lw_g (lw_at lw_m0 197 rfl) rfl
theorem q216 : (Jvm.Cond.instanceMethod ({ cls := "GlobalMinCutModel", name := "smallest", desc := "()I" } : Jvm.MethodName)) ∈ lw_all := lw_g (lw_at lw_m0 199 rfl) rfl
theorem q217 : (Jvm.Cond.selects "GlobalMinCutModel" ({ cls := "GlobalMinCutModel", name := "smallest", desc := "()I" } : Jvm.MethodName) ({ cls := "GlobalMinCutModel", name := "smallest", desc := "()I" } : Jvm.MethodName)) ∈ lw_all := lw_g (lw_at lw_m0 200 rfl) rfl
theorem q218 : (Jvm.Cond.code ({ cls := "GlobalMinCutModel", name := "smallest", desc := "()I" } : Jvm.MethodName) prog_3_method_10_code (4 : Nat) (Option.some Jvm.ClassFile.FieldType.int)) ∈ lw_all := lw_g (lw_at lw_m0 201 rfl) rfl
theorem q219 : (Jvm.Cond.methodLink "GlobalMinCutModel" (39 : Nat) ({ cls := "GlobalMinCutModel", name := "least", desc := "()I" } : Jvm.MethodName)) ∈ lw_all := lw_g (lw_at lw_m0 202 rfl) rfl
theorem q221 : (Jvm.Cond.instanceMethod ({ cls := "GlobalMinCutModel", name := "between", desc := "(II)I" } : Jvm.MethodName)) ∈ lw_all := lw_g (lw_at lw_m0 204 rfl) rfl
theorem q222 : (Jvm.Cond.selects "GlobalMinCutModel" ({ cls := "GlobalMinCutModel", name := "between", desc := "(II)I" } : Jvm.MethodName) ({ cls := "GlobalMinCutModel", name := "between", desc := "(II)I" } : Jvm.MethodName)) ∈ lw_all := lw_g (lw_at lw_m0 205 rfl) rfl
theorem q223 : (Jvm.Cond.code ({ cls := "GlobalMinCutModel", name := "between", desc := "(II)I" } : Jvm.MethodName) prog_3_method_11_code (3 : Nat) (Option.some Jvm.ClassFile.FieldType.int)) ∈ lw_all := lw_g (lw_at lw_m0 206 rfl) rfl
theorem q225 : (Jvm.Cond.instanceMethod ({ cls := "GlobalMinCutModel", name := "value", desc := "(I)I" } : Jvm.MethodName)) ∈ lw_all := lw_g (lw_at lw_m0 208 rfl) rfl
theorem q226 : (Jvm.Cond.selects "GlobalMinCutModel" ({ cls := "GlobalMinCutModel", name := "value", desc := "(I)I" } : Jvm.MethodName) ({ cls := "GlobalMinCutModel", name := "value", desc := "(I)I" } : Jvm.MethodName)) ∈ lw_all := lw_g (lw_at lw_m0 209 rfl) rfl
theorem q227 : (Jvm.Cond.code ({ cls := "GlobalMinCutModel", name := "value", desc := "(I)I" } : Jvm.MethodName) prog_3_method_12_code (5 : Nat) (Option.some Jvm.ClassFile.FieldType.int)) ∈ lw_all := lw_g (lw_at lw_m0 210 rfl) rfl
theorem q229 : (Jvm.Cond.instanceMethod ({ cls := "GlobalMinCutModel", name := "separated", desc := "()I" } : Jvm.MethodName)) ∈ lw_all := lw_g (lw_at lw_m0 212 rfl) rfl
theorem q230 : (Jvm.Cond.selects "GlobalMinCutModel" ({ cls := "GlobalMinCutModel", name := "separated", desc := "()I" } : Jvm.MethodName) ({ cls := "GlobalMinCutModel", name := "separated", desc := "()I" } : Jvm.MethodName)) ∈ lw_all := lw_g (lw_at lw_m0 213 rfl) rfl
theorem q231 : (Jvm.Cond.code ({ cls := "GlobalMinCutModel", name := "separated", desc := "()I" } : Jvm.MethodName) prog_3_method_13_code (5 : Nat) (Option.some Jvm.ClassFile.FieldType.int)) ∈ lw_all := lw_g (lw_at lw_m0 214 rfl) rfl
theorem q233 : (Jvm.Cond.instanceMethod ({ cls := "GlobalMinCutModel", name := "without", desc := "(I)I" } : Jvm.MethodName)) ∈ lw_all := lw_g (lw_at lw_m0 216 rfl) rfl
theorem q234 : (Jvm.Cond.selects "GlobalMinCutModel" ({ cls := "GlobalMinCutModel", name := "without", desc := "(I)I" } : Jvm.MethodName) ({ cls := "GlobalMinCutModel", name := "without", desc := "(I)I" } : Jvm.MethodName)) ∈ lw_all := lw_g (lw_at lw_m0 217 rfl) rfl
theorem q235 : (Jvm.Cond.code ({ cls := "GlobalMinCutModel", name := "without", desc := "(I)I" } : Jvm.MethodName) prog_3_method_14_code (2 : Nat) (Option.some Jvm.ClassFile.FieldType.int)) ∈ lw_all := lw_g (lw_at lw_m0 218 rfl) rfl
theorem in_X2 : ∀ w ∈ wsX20, w ∈ lw_all := lw_in wsX20 [175, 177, 179] (by decide +kernel) (by decide +kernel)
end
section
/-! java/lang/Object -/
set_option maxRecDepth 100000
def RJ0 : String := "java/lang/Object"
abbrev cJ0_init : ByteArray := object_method_1_code
def yJ0_init : MethodName := ⟨RJ0, "<init>", "()V"⟩
theorem dJ0_init_0 : decode cJ0_init 0 = .ok (.return_, 1) := by decide +kernel
theorem q26 : (Jvm.Cond.instanceMethod ({ cls := "java/lang/Object", name := "<init>", desc := "()V" } : Jvm.MethodName)) ∈ lw_all := lw_g (lw_at lw_m0 9 rfl) rfl
theorem q27 : (Jvm.Cond.code ({ cls := "java/lang/Object", name := "<init>", desc := "()V" } : Jvm.MethodName) object_method_1_code (1 : Nat) (Option.none : Option Jvm.ClassFile.FieldType)) ∈ lw_all := lw_g (lw_at lw_m0 10 rfl) rfl
theorem q71 : (Jvm.Cond.arrayClass Jvm.ClassFile.FieldType.int) ∈ lw_all := lw_g (lw_at lw_m0 54 rfl) rfl
set_option maxRecDepth 100000
theorem q72 : (Jvm.Cond.arrayClass Jvm.ClassFile.FieldType.boolean) ∈ lw_all := lw_g (lw_at lw_m0 55 rfl) rfl
/-! GlobalMinCutLaw -/
set_option maxRecDepth 100000
def RX0 : String := "GlobalMinCutLaw"
abbrev cX0_cell : ByteArray := method_2_code
def yX0_cell : MethodName := ⟨RX0, "cell", "([II)I"⟩
theorem dX0_cell_0 : decode cX0_cell 0 = .ok (.iload_n 1, 1) := by decide +kernel
theorem dX0_cell_1 : decode cX0_cell 1 = .ok (.aload_n 0, 1) := by decide +kernel
theorem dX0_cell_2 : decode cX0_cell 2 = .ok (.arraylength, 1) := by decide +kernel
theorem dX0_cell_3 : decode cX0_cell 3 = .ok (.if_icmp .ge 9, 3) := by decide +kernel
theorem dX0_cell_6 : decode cX0_cell 6 = .ok (.aload_n 0, 1) := by decide +kernel
theorem dX0_cell_7 : decode cX0_cell 7 = .ok (.iload_n 1, 1) := by decide +kernel
theorem dX0_cell_8 : decode cX0_cell 8 = .ok (.iaload, 1) := by decide +kernel
theorem dX0_cell_9 : decode cX0_cell 9 = .ok (.goto 4, 3) := by decide +kernel
theorem dX0_cell_12 : decode cX0_cell 12 = .ok (.iconst 0, 1) := by decide +kernel
theorem dX0_cell_13 : decode cX0_cell 13 = .ok (.ireturn, 1) := by decide +kernel
theorem q17 : (Jvm.Cond.initialized "GlobalMinCutLaw") ∈ lw_all := lw_g (lw_at lw_m0 0 rfl) rfl
theorem q20 : (Jvm.Cond.classLink "GlobalMinCutLaw" (7 : Nat) "GlobalMinCut") ∈ lw_all := lw_g (lw_at lw_m0 3 rfl) rfl
theorem q22 : (Jvm.Cond.methodLink "GlobalMinCutLaw" (15 : Nat) ({ cls := "GlobalMinCut", name := "<init>", desc := "(I)V" } : Jvm.MethodName)) ∈ lw_all := lw_g (lw_at lw_m0 5 rfl) rfl
theorem q73 : (Jvm.Cond.methodLink "GlobalMinCutLaw" (21 : Nat) ({ cls := "GlobalMinCut", name := "weight", desc := "(III)I" } : Jvm.MethodName)) ∈ lw_all := lw_g (lw_at lw_m0 56 rfl) rfl
theorem q81 : (Jvm.Cond.methodLink "GlobalMinCutLaw" (26 : Nat) ({ cls := "GlobalMinCut", name := "change", desc := "(III)I" } : Jvm.MethodName)) ∈ lw_all := lw_g (lw_at lw_m0 64 rfl) rfl
theorem q85 : (Jvm.Cond.methodLink "GlobalMinCutLaw" (30 : Nat) ({ cls := "GlobalMinCut", name := "glue", desc := "(IIZ)I" } : Jvm.MethodName)) ∈ lw_all := lw_g (lw_at lw_m0 68 rfl) rfl
theorem q89 : (Jvm.Cond.methodLink "GlobalMinCutLaw" (35 : Nat) ({ cls := "GlobalMinCut", name := "least", desc := "()I" } : Jvm.MethodName)) ∈ lw_all := lw_g (lw_at lw_m0 72 rfl) rfl
theorem q122 : (Jvm.Cond.methodLink "GlobalMinCutLaw" (40 : Nat) ({ cls := "GlobalMinCut", name := "smallest", desc := "()I" } : Jvm.MethodName)) ∈ lw_all := lw_g (lw_at lw_m0 105 rfl) rfl
theorem q147 : (Jvm.Cond.methodLink "GlobalMinCutLaw" (44 : Nat) ({ cls := "GlobalMinCut", name := "between", desc := "(II)I" } : Jvm.MethodName)) ∈ lw_all := lw_g (lw_at lw_m0 130 rfl) rfl
theorem q151 : (Jvm.Cond.methodLink "GlobalMinCutLaw" (49 : Nat) ({ cls := "GlobalMinCut", name := "value", desc := "(I)I" } : Jvm.MethodName)) ∈ lw_all := lw_g (lw_at lw_m0 134 rfl) rfl
theorem q155 : (Jvm.Cond.methodLink "GlobalMinCutLaw" (54 : Nat) ({ cls := "GlobalMinCut", name := "separated", desc := "()I" } : Jvm.MethodName)) ∈ lw_all := lw_g (lw_at lw_m0 138 rfl) rfl
theorem q159 : (Jvm.Cond.methodLink "GlobalMinCutLaw" (58 : Nat) ({ cls := "GlobalMinCut", name := "without", desc := "(I)I" } : Jvm.MethodName)) ∈ lw_all := lw_g (lw_at lw_m0 142 rfl) rfl
theorem q163 : (Jvm.Cond.methodLink "GlobalMinCutLaw" (9 : Nat) ({ cls := "GlobalMinCutLaw", name := "cell", desc := "([II)I" } : Jvm.MethodName)) ∈ lw_all := lw_g (lw_at lw_m0 146 rfl) rfl
theorem q164 : (Jvm.Cond.static ({ cls := "GlobalMinCutLaw", name := "cell", desc := "([II)I" } : Jvm.MethodName)) ∈ lw_all := lw_g (lw_at lw_m0 147 rfl) rfl
theorem q165 : (Jvm.Cond.code ({ cls := "GlobalMinCutLaw", name := "cell", desc := "([II)I" } : Jvm.MethodName) method_2_code (2 : Nat) (Option.some Jvm.ClassFile.FieldType.int)) ∈ lw_all := lw_g (lw_at lw_m0 148 rfl) rfl
theorem q166 : (Jvm.Cond.classLink "GlobalMinCutLaw" (18 : Nat) "GlobalMinCutModel") ∈ lw_all := lw_g (lw_at lw_m0 149 rfl) rfl
theorem q168 : (Jvm.Cond.methodLink "GlobalMinCutLaw" (20 : Nat) ({ cls := "GlobalMinCutModel", name := "<init>", desc := "(I)V" } : Jvm.MethodName)) ∈ lw_all := lw_g (lw_at lw_m0 151 rfl) rfl
theorem q182 : (Jvm.Cond.methodLink "GlobalMinCutLaw" (25 : Nat) ({ cls := "GlobalMinCutModel", name := "weight", desc := "(III)I" } : Jvm.MethodName)) ∈ lw_all := lw_g (lw_at lw_m0 165 rfl) rfl
theorem q190 : (Jvm.Cond.methodLink "GlobalMinCutLaw" (29 : Nat) ({ cls := "GlobalMinCutModel", name := "change", desc := "(III)I" } : Jvm.MethodName)) ∈ lw_all := lw_g (lw_at lw_m0 173 rfl) rfl
theorem q195 : (Jvm.Cond.methodLink "GlobalMinCutLaw" (34 : Nat) ({ cls := "GlobalMinCutModel", name := "glue", desc := "(IIZ)I" } : Jvm.MethodName)) ∈ lw_all := lw_g (lw_at lw_m0 178 rfl) rfl
theorem q199 : (Jvm.Cond.methodLink "GlobalMinCutLaw" (39 : Nat) ({ cls := "GlobalMinCutModel", name := "least", desc := "()I" } : Jvm.MethodName)) ∈ lw_all := lw_g (lw_at lw_m0 182 rfl) rfl
theorem q215 : (Jvm.Cond.methodLink "GlobalMinCutLaw" (43 : Nat) ({ cls := "GlobalMinCutModel", name := "smallest", desc := "()I" } : Jvm.MethodName)) ∈ lw_all := lw_g (lw_at lw_m0 198 rfl) rfl
theorem q220 : (Jvm.Cond.methodLink "GlobalMinCutLaw" (48 : Nat) ({ cls := "GlobalMinCutModel", name := "between", desc := "(II)I" } : Jvm.MethodName)) ∈ lw_all := lw_g (lw_at lw_m0 203 rfl) rfl
theorem q224 : (Jvm.Cond.methodLink "GlobalMinCutLaw" (53 : Nat) ({ cls := "GlobalMinCutModel", name := "value", desc := "(I)I" } : Jvm.MethodName)) ∈ lw_all := lw_g (lw_at lw_m0 207 rfl) rfl
theorem q228 : (Jvm.Cond.methodLink "GlobalMinCutLaw" (57 : Nat) ({ cls := "GlobalMinCutModel", name := "separated", desc := "()I" } : Jvm.MethodName)) ∈ lw_all := lw_g (lw_at lw_m0 211 rfl) rfl
theorem q232 : (Jvm.Cond.methodLink "GlobalMinCutLaw" (61 : Nat) ({ cls := "GlobalMinCutModel", name := "without", desc := "(I)I" } : Jvm.MethodName)) ∈ lw_all := lw_g (lw_at lw_m0 215 rfl) rfl
end
section
/-! the law's own entry -/
set_option maxRecDepth 100000
abbrev cL_law : ByteArray := code
theorem dL_law_0 : decode cL_law 0 = .ok (.new 7, 3) := by decide +kernel
theorem dL_law_3 : decode cL_law 3 = .ok (.dup, 1) := by decide +kernel
theorem dL_law_4 : decode cL_law 4 = .ok (.aload_n 0, 1) := by decide +kernel
theorem dL_law_5 : decode cL_law 5 = .ok (.iconst 0, 1) := by decide +kernel
theorem dL_law_6 : decode cL_law 6 = .ok (.invokestatic 9, 3) := by decide +kernel
theorem dL_law_9 : decode cL_law 9 = .ok (.invokespecial 15, 3) := by decide +kernel
theorem dL_law_12 : decode cL_law 12 = .ok (.astore_n 1, 1) := by decide +kernel
theorem dL_law_13 : decode cL_law 13 = .ok (.new 18, 3) := by decide +kernel
theorem dL_law_16 : decode cL_law 16 = .ok (.dup, 1) := by decide +kernel
theorem dL_law_17 : decode cL_law 17 = .ok (.aload_n 0, 1) := by decide +kernel
theorem dL_law_18 : decode cL_law 18 = .ok (.iconst 0, 1) := by decide +kernel
theorem dL_law_19 : decode cL_law 19 = .ok (.invokestatic 9, 3) := by decide +kernel
theorem dL_law_22 : decode cL_law 22 = .ok (.invokespecial 20, 3) := by decide +kernel
theorem dL_law_25 : decode cL_law 25 = .ok (.astore_n 2, 1) := by decide +kernel
theorem dL_law_26 : decode cL_law 26 = .ok (.iconst 1, 1) := by decide +kernel
theorem dL_law_27 : decode cL_law 27 = .ok (.istore_n 3, 1) := by decide +kernel
theorem dL_law_28 : decode cL_law 28 = .ok (.iload_n 3, 1) := by decide +kernel
theorem dL_law_29 : decode cL_law 29 = .ok (.aload_n 0, 1) := by decide +kernel
theorem dL_law_30 : decode cL_law 30 = .ok (.arraylength, 1) := by decide +kernel
theorem dL_law_31 : decode cL_law 31 = .ok (.iconst 4, 1) := by decide +kernel
theorem dL_law_32 : decode cL_law 32 = .ok (.isub, 1) := by decide +kernel
theorem dL_law_33 : decode cL_law 33 = .ok (.if_icmp .gt 328, 3) := by decide +kernel
theorem dL_law_36 : decode cL_law 36 = .ok (.aload_n 0, 1) := by decide +kernel
theorem dL_law_37 : decode cL_law 37 = .ok (.iload_n 3, 1) := by decide +kernel
theorem dL_law_38 : decode cL_law 38 = .ok (.iaload, 1) := by decide +kernel
theorem dL_law_39 : decode cL_law 39 = .ok (.bipush 15, 2) := by decide +kernel
theorem dL_law_41 : decode cL_law 41 = .ok (.iand, 1) := by decide +kernel
theorem dL_law_42 : decode cL_law 42 = .ok (.tableswitch 313 0 8 #[50, 93, 136, 195, 208, 221, 254, 277, 290], 50) := by decide +kernel
theorem dL_law_92 : decode cL_law 92 = .ok (.aload_n 1, 1) := by decide +kernel
theorem dL_law_93 : decode cL_law 93 = .ok (.aload_n 0, 1) := by decide +kernel
theorem dL_law_94 : decode cL_law 94 = .ok (.iload_n 3, 1) := by decide +kernel
theorem dL_law_95 : decode cL_law 95 = .ok (.iconst 1, 1) := by decide +kernel
theorem dL_law_96 : decode cL_law 96 = .ok (.iadd, 1) := by decide +kernel
theorem dL_law_97 : decode cL_law 97 = .ok (.iaload, 1) := by decide +kernel
theorem dL_law_98 : decode cL_law 98 = .ok (.aload_n 0, 1) := by decide +kernel
theorem dL_law_99 : decode cL_law 99 = .ok (.iload_n 3, 1) := by decide +kernel
theorem dL_law_100 : decode cL_law 100 = .ok (.iconst 2, 1) := by decide +kernel
theorem dL_law_101 : decode cL_law 101 = .ok (.iadd, 1) := by decide +kernel
theorem dL_law_102 : decode cL_law 102 = .ok (.iaload, 1) := by decide +kernel
theorem dL_law_103 : decode cL_law 103 = .ok (.aload_n 0, 1) := by decide +kernel
theorem dL_law_104 : decode cL_law 104 = .ok (.iload_n 3, 1) := by decide +kernel
theorem dL_law_105 : decode cL_law 105 = .ok (.iconst 3, 1) := by decide +kernel
theorem dL_law_106 : decode cL_law 106 = .ok (.iadd, 1) := by decide +kernel
theorem dL_law_107 : decode cL_law 107 = .ok (.iaload, 1) := by decide +kernel
theorem dL_law_108 : decode cL_law 108 = .ok (.invokevirtual 21, 3) := by decide +kernel
theorem dL_law_111 : decode cL_law 111 = .ok (.aload_n 2, 1) := by decide +kernel
theorem dL_law_112 : decode cL_law 112 = .ok (.aload_n 0, 1) := by decide +kernel
theorem dL_law_113 : decode cL_law 113 = .ok (.iload_n 3, 1) := by decide +kernel
theorem dL_law_114 : decode cL_law 114 = .ok (.iconst 1, 1) := by decide +kernel
theorem dL_law_115 : decode cL_law 115 = .ok (.iadd, 1) := by decide +kernel
theorem dL_law_116 : decode cL_law 116 = .ok (.iaload, 1) := by decide +kernel
theorem dL_law_117 : decode cL_law 117 = .ok (.aload_n 0, 1) := by decide +kernel
theorem dL_law_118 : decode cL_law 118 = .ok (.iload_n 3, 1) := by decide +kernel
theorem dL_law_119 : decode cL_law 119 = .ok (.iconst 2, 1) := by decide +kernel
theorem dL_law_120 : decode cL_law 120 = .ok (.iadd, 1) := by decide +kernel
theorem dL_law_121 : decode cL_law 121 = .ok (.iaload, 1) := by decide +kernel
theorem dL_law_122 : decode cL_law 122 = .ok (.aload_n 0, 1) := by decide +kernel
theorem dL_law_123 : decode cL_law 123 = .ok (.iload_n 3, 1) := by decide +kernel
theorem dL_law_124 : decode cL_law 124 = .ok (.iconst 3, 1) := by decide +kernel
theorem dL_law_125 : decode cL_law 125 = .ok (.iadd, 1) := by decide +kernel
theorem dL_law_126 : decode cL_law 126 = .ok (.iaload, 1) := by decide +kernel
theorem dL_law_127 : decode cL_law 127 = .ok (.invokevirtual 25, 3) := by decide +kernel
theorem dL_law_130 : decode cL_law 130 = .ok (.if_icmp .eq 225, 3) := by decide +kernel
theorem dL_law_133 : decode cL_law 133 = .ok (.iconst 0, 1) := by decide +kernel
theorem dL_law_134 : decode cL_law 134 = .ok (.ireturn, 1) := by decide +kernel
theorem dL_law_135 : decode cL_law 135 = .ok (.aload_n 1, 1) := by decide +kernel
theorem dL_law_136 : decode cL_law 136 = .ok (.aload_n 0, 1) := by decide +kernel
theorem dL_law_137 : decode cL_law 137 = .ok (.iload_n 3, 1) := by decide +kernel
theorem dL_law_138 : decode cL_law 138 = .ok (.iconst 1, 1) := by decide +kernel
theorem dL_law_139 : decode cL_law 139 = .ok (.iadd, 1) := by decide +kernel
theorem dL_law_140 : decode cL_law 140 = .ok (.iaload, 1) := by decide +kernel
theorem dL_law_141 : decode cL_law 141 = .ok (.aload_n 0, 1) := by decide +kernel
theorem dL_law_142 : decode cL_law 142 = .ok (.iload_n 3, 1) := by decide +kernel
theorem dL_law_143 : decode cL_law 143 = .ok (.iconst 2, 1) := by decide +kernel
theorem dL_law_144 : decode cL_law 144 = .ok (.iadd, 1) := by decide +kernel
theorem dL_law_145 : decode cL_law 145 = .ok (.iaload, 1) := by decide +kernel
theorem dL_law_146 : decode cL_law 146 = .ok (.aload_n 0, 1) := by decide +kernel
theorem dL_law_147 : decode cL_law 147 = .ok (.iload_n 3, 1) := by decide +kernel
theorem dL_law_148 : decode cL_law 148 = .ok (.iconst 3, 1) := by decide +kernel
theorem dL_law_149 : decode cL_law 149 = .ok (.iadd, 1) := by decide +kernel
theorem dL_law_150 : decode cL_law 150 = .ok (.iaload, 1) := by decide +kernel
theorem dL_law_151 : decode cL_law 151 = .ok (.invokevirtual 26, 3) := by decide +kernel
theorem dL_law_154 : decode cL_law 154 = .ok (.aload_n 2, 1) := by decide +kernel
theorem dL_law_155 : decode cL_law 155 = .ok (.aload_n 0, 1) := by decide +kernel
theorem dL_law_156 : decode cL_law 156 = .ok (.iload_n 3, 1) := by decide +kernel
theorem dL_law_157 : decode cL_law 157 = .ok (.iconst 1, 1) := by decide +kernel
theorem dL_law_158 : decode cL_law 158 = .ok (.iadd, 1) := by decide +kernel
theorem dL_law_159 : decode cL_law 159 = .ok (.iaload, 1) := by decide +kernel
theorem dL_law_160 : decode cL_law 160 = .ok (.aload_n 0, 1) := by decide +kernel
theorem dL_law_161 : decode cL_law 161 = .ok (.iload_n 3, 1) := by decide +kernel
theorem dL_law_162 : decode cL_law 162 = .ok (.iconst 2, 1) := by decide +kernel
theorem dL_law_163 : decode cL_law 163 = .ok (.iadd, 1) := by decide +kernel
theorem dL_law_164 : decode cL_law 164 = .ok (.iaload, 1) := by decide +kernel
theorem dL_law_165 : decode cL_law 165 = .ok (.aload_n 0, 1) := by decide +kernel
theorem dL_law_166 : decode cL_law 166 = .ok (.iload_n 3, 1) := by decide +kernel
theorem dL_law_167 : decode cL_law 167 = .ok (.iconst 3, 1) := by decide +kernel
theorem dL_law_168 : decode cL_law 168 = .ok (.iadd, 1) := by decide +kernel
theorem dL_law_169 : decode cL_law 169 = .ok (.iaload, 1) := by decide +kernel
theorem dL_law_170 : decode cL_law 170 = .ok (.invokevirtual 29, 3) := by decide +kernel
theorem dL_law_173 : decode cL_law 173 = .ok (.if_icmp .eq 182, 3) := by decide +kernel
theorem dL_law_176 : decode cL_law 176 = .ok (.iconst 0, 1) := by decide +kernel
theorem dL_law_177 : decode cL_law 177 = .ok (.ireturn, 1) := by decide +kernel
theorem dL_law_178 : decode cL_law 178 = .ok (.aload_n 1, 1) := by decide +kernel
theorem dL_law_179 : decode cL_law 179 = .ok (.aload_n 0, 1) := by decide +kernel
theorem dL_law_180 : decode cL_law 180 = .ok (.iload_n 3, 1) := by decide +kernel
theorem dL_law_181 : decode cL_law 181 = .ok (.iconst 1, 1) := by decide +kernel
theorem dL_law_182 : decode cL_law 182 = .ok (.iadd, 1) := by decide +kernel
theorem dL_law_183 : decode cL_law 183 = .ok (.iaload, 1) := by decide +kernel
theorem dL_law_184 : decode cL_law 184 = .ok (.aload_n 0, 1) := by decide +kernel
theorem dL_law_185 : decode cL_law 185 = .ok (.iload_n 3, 1) := by decide +kernel
theorem dL_law_186 : decode cL_law 186 = .ok (.iconst 2, 1) := by decide +kernel
theorem dL_law_187 : decode cL_law 187 = .ok (.iadd, 1) := by decide +kernel
theorem dL_law_188 : decode cL_law 188 = .ok (.iaload, 1) := by decide +kernel
theorem dL_law_189 : decode cL_law 189 = .ok (.aload_n 0, 1) := by decide +kernel
theorem dL_law_190 : decode cL_law 190 = .ok (.iload_n 3, 1) := by decide +kernel
theorem dL_law_191 : decode cL_law 191 = .ok (.iconst 3, 1) := by decide +kernel
end
section
set_option maxRecDepth 100000
theorem dL_law_192 : decode cL_law 192 = .ok (.iadd, 1) := by decide +kernel
theorem dL_law_193 : decode cL_law 193 = .ok (.iaload, 1) := by decide +kernel
theorem dL_law_194 : decode cL_law 194 = .ok (.ifCond .eq 7, 3) := by decide +kernel
theorem dL_law_197 : decode cL_law 197 = .ok (.iconst 1, 1) := by decide +kernel
theorem dL_law_198 : decode cL_law 198 = .ok (.goto 4, 3) := by decide +kernel
theorem dL_law_201 : decode cL_law 201 = .ok (.iconst 0, 1) := by decide +kernel
theorem dL_law_202 : decode cL_law 202 = .ok (.invokevirtual 30, 3) := by decide +kernel
theorem dL_law_205 : decode cL_law 205 = .ok (.aload_n 2, 1) := by decide +kernel
theorem dL_law_206 : decode cL_law 206 = .ok (.aload_n 0, 1) := by decide +kernel
theorem dL_law_207 : decode cL_law 207 = .ok (.iload_n 3, 1) := by decide +kernel
theorem dL_law_208 : decode cL_law 208 = .ok (.iconst 1, 1) := by decide +kernel
theorem dL_law_209 : decode cL_law 209 = .ok (.iadd, 1) := by decide +kernel
theorem dL_law_210 : decode cL_law 210 = .ok (.iaload, 1) := by decide +kernel
theorem dL_law_211 : decode cL_law 211 = .ok (.aload_n 0, 1) := by decide +kernel
theorem dL_law_212 : decode cL_law 212 = .ok (.iload_n 3, 1) := by decide +kernel
theorem dL_law_213 : decode cL_law 213 = .ok (.iconst 2, 1) := by decide +kernel
theorem dL_law_214 : decode cL_law 214 = .ok (.iadd, 1) := by decide +kernel
theorem dL_law_215 : decode cL_law 215 = .ok (.iaload, 1) := by decide +kernel
theorem dL_law_216 : decode cL_law 216 = .ok (.aload_n 0, 1) := by decide +kernel
theorem dL_law_217 : decode cL_law 217 = .ok (.iload_n 3, 1) := by decide +kernel
theorem dL_law_218 : decode cL_law 218 = .ok (.iconst 3, 1) := by decide +kernel
theorem dL_law_219 : decode cL_law 219 = .ok (.iadd, 1) := by decide +kernel
theorem dL_law_220 : decode cL_law 220 = .ok (.iaload, 1) := by decide +kernel
theorem dL_law_221 : decode cL_law 221 = .ok (.ifCond .eq 7, 3) := by decide +kernel
theorem dL_law_224 : decode cL_law 224 = .ok (.iconst 1, 1) := by decide +kernel
theorem dL_law_225 : decode cL_law 225 = .ok (.goto 4, 3) := by decide +kernel
theorem dL_law_228 : decode cL_law 228 = .ok (.iconst 0, 1) := by decide +kernel
theorem dL_law_229 : decode cL_law 229 = .ok (.invokevirtual 34, 3) := by decide +kernel
theorem dL_law_232 : decode cL_law 232 = .ok (.if_icmp .eq 123, 3) := by decide +kernel
theorem dL_law_235 : decode cL_law 235 = .ok (.iconst 0, 1) := by decide +kernel
theorem dL_law_236 : decode cL_law 236 = .ok (.ireturn, 1) := by decide +kernel
theorem dL_law_237 : decode cL_law 237 = .ok (.aload_n 1, 1) := by decide +kernel
theorem dL_law_238 : decode cL_law 238 = .ok (.invokevirtual 35, 3) := by decide +kernel
theorem dL_law_241 : decode cL_law 241 = .ok (.aload_n 2, 1) := by decide +kernel
theorem dL_law_242 : decode cL_law 242 = .ok (.invokevirtual 39, 3) := by decide +kernel
theorem dL_law_245 : decode cL_law 245 = .ok (.if_icmp .eq 110, 3) := by decide +kernel
theorem dL_law_248 : decode cL_law 248 = .ok (.iconst 0, 1) := by decide +kernel
theorem dL_law_249 : decode cL_law 249 = .ok (.ireturn, 1) := by decide +kernel
theorem dL_law_250 : decode cL_law 250 = .ok (.aload_n 1, 1) := by decide +kernel
theorem dL_law_251 : decode cL_law 251 = .ok (.invokevirtual 40, 3) := by decide +kernel
theorem dL_law_254 : decode cL_law 254 = .ok (.aload_n 2, 1) := by decide +kernel
theorem dL_law_255 : decode cL_law 255 = .ok (.invokevirtual 43, 3) := by decide +kernel
theorem dL_law_258 : decode cL_law 258 = .ok (.if_icmp .eq 97, 3) := by decide +kernel
theorem dL_law_261 : decode cL_law 261 = .ok (.iconst 0, 1) := by decide +kernel
theorem dL_law_262 : decode cL_law 262 = .ok (.ireturn, 1) := by decide +kernel
theorem dL_law_263 : decode cL_law 263 = .ok (.aload_n 1, 1) := by decide +kernel
theorem dL_law_264 : decode cL_law 264 = .ok (.aload_n 0, 1) := by decide +kernel
theorem dL_law_265 : decode cL_law 265 = .ok (.iload_n 3, 1) := by decide +kernel
theorem dL_law_266 : decode cL_law 266 = .ok (.iconst 1, 1) := by decide +kernel
theorem dL_law_267 : decode cL_law 267 = .ok (.iadd, 1) := by decide +kernel
theorem dL_law_268 : decode cL_law 268 = .ok (.iaload, 1) := by decide +kernel
theorem dL_law_269 : decode cL_law 269 = .ok (.aload_n 0, 1) := by decide +kernel
theorem dL_law_270 : decode cL_law 270 = .ok (.iload_n 3, 1) := by decide +kernel
theorem dL_law_271 : decode cL_law 271 = .ok (.iconst 2, 1) := by decide +kernel
theorem dL_law_272 : decode cL_law 272 = .ok (.iadd, 1) := by decide +kernel
theorem dL_law_273 : decode cL_law 273 = .ok (.iaload, 1) := by decide +kernel
theorem dL_law_274 : decode cL_law 274 = .ok (.invokevirtual 44, 3) := by decide +kernel
theorem dL_law_277 : decode cL_law 277 = .ok (.aload_n 2, 1) := by decide +kernel
theorem dL_law_278 : decode cL_law 278 = .ok (.aload_n 0, 1) := by decide +kernel
theorem dL_law_279 : decode cL_law 279 = .ok (.iload_n 3, 1) := by decide +kernel
theorem dL_law_280 : decode cL_law 280 = .ok (.iconst 1, 1) := by decide +kernel
theorem dL_law_281 : decode cL_law 281 = .ok (.iadd, 1) := by decide +kernel
theorem dL_law_282 : decode cL_law 282 = .ok (.iaload, 1) := by decide +kernel
theorem dL_law_283 : decode cL_law 283 = .ok (.aload_n 0, 1) := by decide +kernel
theorem dL_law_284 : decode cL_law 284 = .ok (.iload_n 3, 1) := by decide +kernel
theorem dL_law_285 : decode cL_law 285 = .ok (.iconst 2, 1) := by decide +kernel
theorem dL_law_286 : decode cL_law 286 = .ok (.iadd, 1) := by decide +kernel
theorem dL_law_287 : decode cL_law 287 = .ok (.iaload, 1) := by decide +kernel
theorem dL_law_288 : decode cL_law 288 = .ok (.invokevirtual 48, 3) := by decide +kernel
theorem dL_law_291 : decode cL_law 291 = .ok (.if_icmp .eq 64, 3) := by decide +kernel
theorem dL_law_294 : decode cL_law 294 = .ok (.iconst 0, 1) := by decide +kernel
theorem dL_law_295 : decode cL_law 295 = .ok (.ireturn, 1) := by decide +kernel
theorem dL_law_296 : decode cL_law 296 = .ok (.aload_n 1, 1) := by decide +kernel
theorem dL_law_297 : decode cL_law 297 = .ok (.aload_n 0, 1) := by decide +kernel
theorem dL_law_298 : decode cL_law 298 = .ok (.iload_n 3, 1) := by decide +kernel
theorem dL_law_299 : decode cL_law 299 = .ok (.iconst 1, 1) := by decide +kernel
theorem dL_law_300 : decode cL_law 300 = .ok (.iadd, 1) := by decide +kernel
theorem dL_law_301 : decode cL_law 301 = .ok (.iaload, 1) := by decide +kernel
theorem dL_law_302 : decode cL_law 302 = .ok (.invokevirtual 49, 3) := by decide +kernel
theorem dL_law_305 : decode cL_law 305 = .ok (.aload_n 2, 1) := by decide +kernel
theorem dL_law_306 : decode cL_law 306 = .ok (.aload_n 0, 1) := by decide +kernel
theorem dL_law_307 : decode cL_law 307 = .ok (.iload_n 3, 1) := by decide +kernel
theorem dL_law_308 : decode cL_law 308 = .ok (.iconst 1, 1) := by decide +kernel
theorem dL_law_309 : decode cL_law 309 = .ok (.iadd, 1) := by decide +kernel
theorem dL_law_310 : decode cL_law 310 = .ok (.iaload, 1) := by decide +kernel
theorem dL_law_311 : decode cL_law 311 = .ok (.invokevirtual 53, 3) := by decide +kernel
theorem dL_law_314 : decode cL_law 314 = .ok (.if_icmp .eq 41, 3) := by decide +kernel
theorem dL_law_317 : decode cL_law 317 = .ok (.iconst 0, 1) := by decide +kernel
theorem dL_law_318 : decode cL_law 318 = .ok (.ireturn, 1) := by decide +kernel
theorem dL_law_319 : decode cL_law 319 = .ok (.aload_n 1, 1) := by decide +kernel
theorem dL_law_320 : decode cL_law 320 = .ok (.invokevirtual 54, 3) := by decide +kernel
theorem dL_law_323 : decode cL_law 323 = .ok (.aload_n 2, 1) := by decide +kernel
theorem dL_law_324 : decode cL_law 324 = .ok (.invokevirtual 57, 3) := by decide +kernel
theorem dL_law_327 : decode cL_law 327 = .ok (.if_icmp .eq 28, 3) := by decide +kernel
theorem dL_law_330 : decode cL_law 330 = .ok (.iconst 0, 1) := by decide +kernel
theorem dL_law_331 : decode cL_law 331 = .ok (.ireturn, 1) := by decide +kernel
theorem dL_law_332 : decode cL_law 332 = .ok (.aload_n 1, 1) := by decide +kernel
theorem dL_law_333 : decode cL_law 333 = .ok (.aload_n 0, 1) := by decide +kernel
theorem dL_law_334 : decode cL_law 334 = .ok (.iload_n 3, 1) := by decide +kernel
theorem dL_law_335 : decode cL_law 335 = .ok (.iconst 1, 1) := by decide +kernel
theorem dL_law_336 : decode cL_law 336 = .ok (.iadd, 1) := by decide +kernel
theorem dL_law_337 : decode cL_law 337 = .ok (.iaload, 1) := by decide +kernel
theorem dL_law_338 : decode cL_law 338 = .ok (.invokevirtual 58, 3) := by decide +kernel
theorem dL_law_341 : decode cL_law 341 = .ok (.aload_n 2, 1) := by decide +kernel
theorem dL_law_342 : decode cL_law 342 = .ok (.aload_n 0, 1) := by decide +kernel
theorem dL_law_343 : decode cL_law 343 = .ok (.iload_n 3, 1) := by decide +kernel
theorem dL_law_344 : decode cL_law 344 = .ok (.iconst 1, 1) := by decide +kernel
theorem dL_law_345 : decode cL_law 345 = .ok (.iadd, 1) := by decide +kernel
theorem dL_law_346 : decode cL_law 346 = .ok (.iaload, 1) := by decide +kernel
theorem dL_law_347 : decode cL_law 347 = .ok (.invokevirtual 61, 3) := by decide +kernel
theorem dL_law_350 : decode cL_law 350 = .ok (.if_icmp .eq 5, 3) := by decide +kernel
theorem dL_law_353 : decode cL_law 353 = .ok (.iconst 0, 1) := by decide +kernel
theorem dL_law_354 : decode cL_law 354 = .ok (.ireturn, 1) := by decide +kernel
theorem dL_law_355 : decode cL_law 355 = .ok (.iinc 3 4, 3) := by decide +kernel
theorem dL_law_358 : decode cL_law 358 = .ok (.goto (-330), 3) := by decide +kernel
theorem dL_law_361 : decode cL_law 361 = .ok (.iconst 1, 1) := by decide +kernel
theorem dL_law_362 : decode cL_law 362 = .ok (.ireturn, 1) := by decide +kernel
end
section
set_option maxRecDepth 100000
abbrev vwCl : List vw_C := [(RX1, TX1, 14), (RX2, TX2, 3)]
/-- a picture of an object: field k's content (an array's at j, a number's at 0) -/
abbrev g_St : Type := Nat → Nat → Int32
def g_up (σ : g_St) (k j : Nat) (v : Int32) : g_St := fun a => if a = k then upd (σ a) j v else σ a
abbrev g_tys (dI dZ : ClassId) : List (ClassId × FieldType) := [(dI, .int), (dZ, .boolean)]
abbrev g1_fs (ad : Nat → Nat) (n : Nat) (σ : g_St) : List Value := [.int (nI n), .ref (ad 1), .ref (ad 2), .ref (ad 3), .ref (ad 4), .int (σ 5 0), .ref (ad 6), .ref (ad 7), .ref (ad 8), .int (σ 9 0), .int (σ 10 0), .ref (ad 11), .ref (ad 12), .ref (ad 13)]
def g1_w (dI dZ : ClassId) (h0 : Nat) (ad : Nat → Nat) (n : Nat) (σ : g_St) : va_W := [(h0, .inr (0, g1_fs ad n σ)), (ad 1, .inl (dI, 81, .inl (σ 1))), (ad 2, .inl (dZ, 81, .inl (σ 2))), (ad 3, .inl (dI, 9, .inl (σ 3))), (ad 4, .inl (dI, 81, .inl (σ 4))), (ad 6, .inl (dZ, 9, .inl (σ 6))), (ad 7, .inl (dZ, 9, .inl (σ 7))), (ad 8, .inl (dI, 9, .inl (σ 8))), (ad 11, .inl (dI, 81, .inl (σ 11))), (ad 12, .inl (dI, 9, .inl (σ 12))), (ad 13, .inl (dI, 9, .inl (σ 13)))]
def g2_w (dI dZ : ClassId) (h0 : Nat) (ad : Nat → Nat) (n : Nat) (σ : g_St) : va_W := [(h0, .inr (1, [.int (nI n), .ref (ad 1), .ref (ad 2)])), (ad 1, .inl (dI, 81, .inl (σ 1))), (ad 2, .inl (dZ, 81, .inl (σ 2)))]
/-- the heap now holds the picture σ; since H0 nothing outside A has changed -/
def g_G (D : va_G) (wf : g_St → va_W) (A : Nat → Prop) (H0 : Heap) (σ : g_St) (H : Heap) (locs : List Loc) : Prop := va_P D vwCl (wf σ) H ∧ va_D A (wf σ) ∧ va_S A H0 H locs
abbrev g1_G (D : va_G) (dI dZ : ClassId) (A : Nat → Prop) (H0 : Heap) (h0 : Nat) (ad : Nat → Nat) (n : Nat) (σ : g_St) (H : Heap) (locs : List Loc) : Prop := g_G D (g1_w dI dZ h0 ad n) A H0 σ H locs
abbrev g2_G (D : va_G) (dI dZ : ClassId) (A : Nat → Prop) (H0 : Heap) (h0 : Nat) (ad : Nat → Nat) (n : Nat) (σ : g_St) (H : Heap) (locs : List Loc) : Prop := g_G D (g2_w dI dZ h0 ad n) A H0 σ H locs
/-- what stands all through a method of class own -/
def g_C (own : String) (p : Program) (s : State) (m : MethodId) (args : Array Value) (c : Code) (cc : ByteArray) (nL : Nat) (D : va_G) (dI dZ : ClassId) : Prop := CallFix p m c cc nL s args lw_all own ∧ va_K D vwCl (g_tys dI dZ) s
theorem g_C.x {own : String} {p : Program} {s : State} {m : MethodId} {args : Array Value} {c : Code} {cc : ByteArray} {nL : Nat} {D : va_G} {dI dZ : ClassId} (C : g_C own p s m args c cc nL D dI dZ) : p.tables.exec = Jvm.exec := C.1.1
theorem g_C.b {own : String} {p : Program} {s : State} {m : MethodId} {args : Array Value} {c : Code} {cc : ByteArray} {nL : Nat} {D : va_G} {dI dZ : ClassId} (C : g_C own p s m args c cc nL D dI dZ) : c.code = cc := C.1.2.1
theorem g_C.o {own : String} {p : Program} {s : State} {m : MethodId} {args : Array Value} {c : Code} {cc : ByteArray} {nL : Nat} {D : va_G} {dI dZ : ClassId} (C : g_C own p s m args c cc nL D dI dZ) : s.vm.findClass own = some m.cls := C.1.2.2.2.1
theorem g_C.t {own : String} {p : Program} {s : State} {m : MethodId} {args : Array Value} {c : Code} {cc : ByteArray} {nL : Nat} {D : va_G} {dI dZ : ClassId} (C : g_C own p s m args c cc nL D dI dZ) : ∀ w ∈ lw_all, w.before args s = true := C.1.2.2.2.2
theorem g_ix (u v : Nat) : nI u * 9 + nI v = nI (u * 9 + v) := by
  rw [← nI_add, ← pk_mul]; rfl
theorem g_z0 : vp_nar .boolean 0 = 0 := by decide
theorem g_z1 : vp_nar .boolean 1 = 1 := by decide
section G1
variable {p : Program} {l : Launch} {e : Env} {R : Room} {s : State} {m : MethodId} {args : Array Value} {below : List Frame} {meth : Method} {c : Code} {H : Heap} {locs : List Loc} {cells slots : Nat} {Q : State → Prop}
variable {cc : ByteArray} {pc nL : Nat} {ls : Array Slot} {rest : List Value} {D : va_G} {dI dZ : ClassId} {A : Nat → Prop} {H0 : Heap} {h0 : Nat} {ad : Nat → Nat} {n : Nat} {σ : g_St}
/-- aload_0, getfield n -/
theorem g1_f0 (C : g_C RX1 p s m args c cc nL D dI dZ) (G : g1_G D dI dZ A H0 h0 ad n σ H locs) (hl : ls[0]? = some (.val (.ref h0))) (d1 : decode cc pc = .ok (.aload_n 0, 1)) (d2 : decode cc (pc + 1) = .ok (.getfield 41, 3)) (kk : W p l e R s m args below meth c H locs cells slots Q (F0 m (pc + 4) ls (.int (nI n) :: rest))) : W p l e R s m args below meth c H locs cells slots Q (F0 m pc ls rest) :=
  lv_aload_n C.x C.b d1 rfl hl (va_get (D := D) (ci := 0) (v := .int (nI n)) (C := RX1) (T := TX1) (N := 14) C.x C.b C.t in_X1 C.o C.2 G.1 0 rfl rfl 0 (by decide) (C.t _ q28) (fun _ h9 => h9) rfl d2 kk)
theorem g1_g0 (C : g_C RX1 p s m args c cc nL D dI dZ) (G : g1_G D dI dZ A H0 h0 ad n σ H locs) (d2 : decode cc pc = .ok (.getfield 41, 3)) (kk : W p l e R s m args below meth c H locs cells slots Q (F0 m (pc + 3) ls (.int (nI n) :: rest))) : W p l e R s m args below meth c H locs cells slots Q (F0 m pc ls (.ref h0 :: rest)) :=
  va_get (D := D) (ci := 0) (v := .int (nI n)) (C := RX1) (T := TX1) (N := 14) C.x C.b C.t in_X1 C.o C.2 G.1 0 rfl rfl 0 (by decide) (C.t _ q28) (fun _ h9 => h9) rfl d2 kk
/-- aload_0, getfield weights -/
theorem g1_f1 (C : g_C RX1 p s m args c cc nL D dI dZ) (G : g1_G D dI dZ A H0 h0 ad n σ H locs) (hl : ls[0]? = some (.val (.ref h0))) (d1 : decode cc pc = .ok (.aload_n 0, 1)) (d2 : decode cc (pc + 1) = .ok (.getfield 7, 3)) (kk : W p l e R s m args below meth c H locs cells slots Q (F0 m (pc + 4) ls (.ref (ad 1) :: rest))) : W p l e R s m args below meth c H locs cells slots Q (F0 m pc ls rest) :=
  lv_aload_n C.x C.b d1 rfl hl (va_get (D := D) (ci := 0) (v := .ref (ad 1)) (C := RX1) (T := TX1) (N := 14) C.x C.b C.t in_X1 C.o C.2 G.1 0 rfl rfl 1 (by decide) (C.t _ q29) (fun _ h9 => h9) rfl d2 kk)
theorem g1_g1 (C : g_C RX1 p s m args c cc nL D dI dZ) (G : g1_G D dI dZ A H0 h0 ad n σ H locs) (d2 : decode cc pc = .ok (.getfield 7, 3)) (kk : W p l e R s m args below meth c H locs cells slots Q (F0 m (pc + 3) ls (.ref (ad 1) :: rest))) : W p l e R s m args below meth c H locs cells slots Q (F0 m pc ls (.ref h0 :: rest)) :=
  va_get (D := D) (ci := 0) (v := .ref (ad 1)) (C := RX1) (T := TX1) (N := 14) C.x C.b C.t in_X1 C.o C.2 G.1 0 rfl rfl 1 (by decide) (C.t _ q29) (fun _ h9 => h9) rfl d2 kk
theorem g1_l1 (C : g_C RX1 p s m args c cc nL D dI dZ) (G : g1_G D dI dZ A H0 h0 ad n σ H locs) {i : Int32} (j : Nat) (hj : j < 81) (ei : i = nI j) (d2 : decode cc pc = .ok (.iaload, 1)) (kk : W p l e R s m args below meth c H locs cells slots Q (F0 m (pc + 1) ls (.int (σ 1 j) :: rest))) : W p l e R s m args below meth c H locs cells slots Q (F0 m pc ls (.int i :: .ref (ad 1) :: rest)) := by
  subst ei
  refine va_iald C.x C.b C.2 G.1 1 0 rfl rfl (vp_in_nI hj (by decide)) d2 ?_
  rw [nI_clamp (Nat.lt_trans hj (by decide))]
  exact kk
theorem g1_s1 (C : g_C RX1 p s m args c cc nL D dI dZ) (G : g1_G D dI dZ A H0 h0 ad n σ H locs) {i x : Int32} (j : Nat) (hj : j < 81) (ei : i = nI j) (d2 : decode cc pc = .ok (.iastore, 1)) (kk : ∀ (H1 : Heap) (locs1 : List Loc), g1_G D dI dZ A H0 h0 ad n (g_up σ 1 j x) H1 locs1 → W p l e R s m args below meth c H1 locs1 cells slots Q (F0 m (pc + 1) ls rest)) : W p l e R s m args below meth c H locs cells slots Q (F0 m pc ls (.int x :: .int i :: .ref (ad 1) :: rest)) := by
  subst ei
  refine va_iast C.x C.b C.2 G.1 G.2.1 G.2.2 1 0 rfl rfl (vp_in_nI hj (by decide)) d2 (fun H1 locs1 hP hD hS => ?_)
  rw [nI_clamp (Nat.lt_trans hj (by decide))] at hP hD
  exact kk H1 locs1 ⟨hP, hD, hS⟩
/-- aload_0, getfield glued -/
theorem g1_f2 (C : g_C RX1 p s m args c cc nL D dI dZ) (G : g1_G D dI dZ A H0 h0 ad n σ H locs) (hl : ls[0]? = some (.val (.ref h0))) (d1 : decode cc pc = .ok (.aload_n 0, 1)) (d2 : decode cc (pc + 1) = .ok (.getfield 13, 3)) (kk : W p l e R s m args below meth c H locs cells slots Q (F0 m (pc + 4) ls (.ref (ad 2) :: rest))) : W p l e R s m args below meth c H locs cells slots Q (F0 m pc ls rest) :=
  lv_aload_n C.x C.b d1 rfl hl (va_get (D := D) (ci := 0) (v := .ref (ad 2)) (C := RX1) (T := TX1) (N := 14) C.x C.b C.t in_X1 C.o C.2 G.1 0 rfl rfl 2 (by decide) (C.t _ q30) (fun _ h9 => h9) rfl d2 kk)
theorem g1_g2 (C : g_C RX1 p s m args c cc nL D dI dZ) (G : g1_G D dI dZ A H0 h0 ad n σ H locs) (d2 : decode cc pc = .ok (.getfield 13, 3)) (kk : W p l e R s m args below meth c H locs cells slots Q (F0 m (pc + 3) ls (.ref (ad 2) :: rest))) : W p l e R s m args below meth c H locs cells slots Q (F0 m pc ls (.ref h0 :: rest)) :=
  va_get (D := D) (ci := 0) (v := .ref (ad 2)) (C := RX1) (T := TX1) (N := 14) C.x C.b C.t in_X1 C.o C.2 G.1 0 rfl rfl 2 (by decide) (C.t _ q30) (fun _ h9 => h9) rfl d2 kk
theorem g1_l2 (C : g_C RX1 p s m args c cc nL D dI dZ) (G : g1_G D dI dZ A H0 h0 ad n σ H locs) {i : Int32} (j : Nat) (hj : j < 81) (ei : i = nI j) (d2 : decode cc pc = .ok (.baload, 1)) (kk : W p l e R s m args below meth c H locs cells slots Q (F0 m (pc + 1) ls (.int (σ 2 j) :: rest))) : W p l e R s m args below meth c H locs cells slots Q (F0 m pc ls (.int i :: .ref (ad 2) :: rest)) := by
  subst ei
  refine va_zald C.x C.b C.2 G.1 2 1 rfl rfl (vp_in_nI hj (by decide)) d2 ?_
  rw [nI_clamp (Nat.lt_trans hj (by decide))]
  exact kk
theorem g1_s2 (C : g_C RX1 p s m args c cc nL D dI dZ) (G : g1_G D dI dZ A H0 h0 ad n σ H locs) {i x : Int32} (j : Nat) (hj : j < 81) (ei : i = nI j) (hz : vp_nar .boolean x = x) (d2 : decode cc pc = .ok (.bastore, 1)) (kk : ∀ (H1 : Heap) (locs1 : List Loc), g1_G D dI dZ A H0 h0 ad n (g_up σ 2 j x) H1 locs1 → W p l e R s m args below meth c H1 locs1 cells slots Q (F0 m (pc + 1) ls rest)) : W p l e R s m args below meth c H locs cells slots Q (F0 m pc ls (.int x :: .int i :: .ref (ad 2) :: rest)) := by
  subst ei
  refine va_zast C.x C.b C.2 G.1 G.2.1 G.2.2 2 1 rfl rfl (vp_in_nI hj (by decide)) d2 (fun H1 locs1 hP hD hS => ?_)
  rw [nI_clamp (Nat.lt_trans hj (by decide)), hz] at hP hD
  exact kk H1 locs1 ⟨hP, hD, hS⟩
/-- aload_0, getfield label -/
theorem g1_f3 (C : g_C RX1 p s m args c cc nL D dI dZ) (G : g1_G D dI dZ A H0 h0 ad n σ H locs) (hl : ls[0]? = some (.val (.ref h0))) (d1 : decode cc pc = .ok (.aload_n 0, 1)) (d2 : decode cc (pc + 1) = .ok (.getfield 17, 3)) (kk : W p l e R s m args below meth c H locs cells slots Q (F0 m (pc + 4) ls (.ref (ad 3) :: rest))) : W p l e R s m args below meth c H locs cells slots Q (F0 m pc ls rest) :=
  lv_aload_n C.x C.b d1 rfl hl (va_get (D := D) (ci := 0) (v := .ref (ad 3)) (C := RX1) (T := TX1) (N := 14) C.x C.b C.t in_X1 C.o C.2 G.1 0 rfl rfl 3 (by decide) (C.t _ q31) (fun _ h9 => h9) rfl d2 kk)
theorem g1_g3 (C : g_C RX1 p s m args c cc nL D dI dZ) (G : g1_G D dI dZ A H0 h0 ad n σ H locs) (d2 : decode cc pc = .ok (.getfield 17, 3)) (kk : W p l e R s m args below meth c H locs cells slots Q (F0 m (pc + 3) ls (.ref (ad 3) :: rest))) : W p l e R s m args below meth c H locs cells slots Q (F0 m pc ls (.ref h0 :: rest)) :=
  va_get (D := D) (ci := 0) (v := .ref (ad 3)) (C := RX1) (T := TX1) (N := 14) C.x C.b C.t in_X1 C.o C.2 G.1 0 rfl rfl 3 (by decide) (C.t _ q31) (fun _ h9 => h9) rfl d2 kk
theorem g1_l3 (C : g_C RX1 p s m args c cc nL D dI dZ) (G : g1_G D dI dZ A H0 h0 ad n σ H locs) {i : Int32} (j : Nat) (hj : j < 9) (ei : i = nI j) (d2 : decode cc pc = .ok (.iaload, 1)) (kk : W p l e R s m args below meth c H locs cells slots Q (F0 m (pc + 1) ls (.int (σ 3 j) :: rest))) : W p l e R s m args below meth c H locs cells slots Q (F0 m pc ls (.int i :: .ref (ad 3) :: rest)) := by
  subst ei
  refine va_iald C.x C.b C.2 G.1 3 0 rfl rfl (vp_in_nI hj (by decide)) d2 ?_
  rw [nI_clamp (Nat.lt_trans hj (by decide))]
  exact kk
theorem g1_s3 (C : g_C RX1 p s m args c cc nL D dI dZ) (G : g1_G D dI dZ A H0 h0 ad n σ H locs) {i x : Int32} (j : Nat) (hj : j < 9) (ei : i = nI j) (d2 : decode cc pc = .ok (.iastore, 1)) (kk : ∀ (H1 : Heap) (locs1 : List Loc), g1_G D dI dZ A H0 h0 ad n (g_up σ 3 j x) H1 locs1 → W p l e R s m args below meth c H1 locs1 cells slots Q (F0 m (pc + 1) ls rest)) : W p l e R s m args below meth c H locs cells slots Q (F0 m pc ls (.int x :: .int i :: .ref (ad 3) :: rest)) := by
  subst ei
  refine va_iast C.x C.b C.2 G.1 G.2.1 G.2.2 3 0 rfl rfl (vp_in_nI hj (by decide)) d2 (fun H1 locs1 hP hD hS => ?_)
  rw [nI_clamp (Nat.lt_trans hj (by decide))] at hP hD
  exact kk H1 locs1 ⟨hP, hD, hS⟩
/-- aload_0, getfield between -/
theorem g1_f4 (C : g_C RX1 p s m args c cc nL D dI dZ) (G : g1_G D dI dZ A H0 h0 ad n σ H locs) (hl : ls[0]? = some (.val (.ref h0))) (d1 : decode cc pc = .ok (.aload_n 0, 1)) (d2 : decode cc (pc + 1) = .ok (.getfield 20, 3)) (kk : W p l e R s m args below meth c H locs cells slots Q (F0 m (pc + 4) ls (.ref (ad 4) :: rest))) : W p l e R s m args below meth c H locs cells slots Q (F0 m pc ls rest) :=
  lv_aload_n C.x C.b d1 rfl hl (va_get (D := D) (ci := 0) (v := .ref (ad 4)) (C := RX1) (T := TX1) (N := 14) C.x C.b C.t in_X1 C.o C.2 G.1 0 rfl rfl 4 (by decide) (C.t _ q32) (fun _ h9 => h9) rfl d2 kk)
theorem g1_g4 (C : g_C RX1 p s m args c cc nL D dI dZ) (G : g1_G D dI dZ A H0 h0 ad n σ H locs) (d2 : decode cc pc = .ok (.getfield 20, 3)) (kk : W p l e R s m args below meth c H locs cells slots Q (F0 m (pc + 3) ls (.ref (ad 4) :: rest))) : W p l e R s m args below meth c H locs cells slots Q (F0 m pc ls (.ref h0 :: rest)) :=
  va_get (D := D) (ci := 0) (v := .ref (ad 4)) (C := RX1) (T := TX1) (N := 14) C.x C.b C.t in_X1 C.o C.2 G.1 0 rfl rfl 4 (by decide) (C.t _ q32) (fun _ h9 => h9) rfl d2 kk
theorem g1_l4 (C : g_C RX1 p s m args c cc nL D dI dZ) (G : g1_G D dI dZ A H0 h0 ad n σ H locs) {i : Int32} (j : Nat) (hj : j < 81) (ei : i = nI j) (d2 : decode cc pc = .ok (.iaload, 1)) (kk : W p l e R s m args below meth c H locs cells slots Q (F0 m (pc + 1) ls (.int (σ 4 j) :: rest))) : W p l e R s m args below meth c H locs cells slots Q (F0 m pc ls (.int i :: .ref (ad 4) :: rest)) := by
  subst ei
  refine va_iald C.x C.b C.2 G.1 4 0 rfl rfl (vp_in_nI hj (by decide)) d2 ?_
  rw [nI_clamp (Nat.lt_trans hj (by decide))]
  exact kk
theorem g1_s4 (C : g_C RX1 p s m args c cc nL D dI dZ) (G : g1_G D dI dZ A H0 h0 ad n σ H locs) {i x : Int32} (j : Nat) (hj : j < 81) (ei : i = nI j) (d2 : decode cc pc = .ok (.iastore, 1)) (kk : ∀ (H1 : Heap) (locs1 : List Loc), g1_G D dI dZ A H0 h0 ad n (g_up σ 4 j x) H1 locs1 → W p l e R s m args below meth c H1 locs1 cells slots Q (F0 m (pc + 1) ls rest)) : W p l e R s m args below meth c H locs cells slots Q (F0 m pc ls (.int x :: .int i :: .ref (ad 4) :: rest)) := by
  subst ei
  refine va_iast C.x C.b C.2 G.1 G.2.1 G.2.2 4 0 rfl rfl (vp_in_nI hj (by decide)) d2 (fun H1 locs1 hP hD hS => ?_)
  rw [nI_clamp (Nat.lt_trans hj (by decide))] at hP hD
  exact kk H1 locs1 ⟨hP, hD, hS⟩
/-- aload_0, getfield groups -/
theorem g1_f5 (C : g_C RX1 p s m args c cc nL D dI dZ) (G : g1_G D dI dZ A H0 h0 ad n σ H locs) (hl : ls[0]? = some (.val (.ref h0))) (d1 : decode cc pc = .ok (.aload_n 0, 1)) (d2 : decode cc (pc + 1) = .ok (.getfield 53, 3)) (kk : W p l e R s m args below meth c H locs cells slots Q (F0 m (pc + 4) ls (.int (σ 5 0) :: rest))) : W p l e R s m args below meth c H locs cells slots Q (F0 m pc ls rest) :=
  lv_aload_n C.x C.b d1 rfl hl (va_get (D := D) (ci := 0) (v := .int (σ 5 0)) (C := RX1) (T := TX1) (N := 14) C.x C.b C.t in_X1 C.o C.2 G.1 0 rfl rfl 5 (by decide) (C.t _ q33) (fun _ h9 => h9) rfl d2 kk)
theorem g1_g5 (C : g_C RX1 p s m args c cc nL D dI dZ) (G : g1_G D dI dZ A H0 h0 ad n σ H locs) (d2 : decode cc pc = .ok (.getfield 53, 3)) (kk : W p l e R s m args below meth c H locs cells slots Q (F0 m (pc + 3) ls (.int (σ 5 0) :: rest))) : W p l e R s m args below meth c H locs cells slots Q (F0 m pc ls (.ref h0 :: rest)) :=
  va_get (D := D) (ci := 0) (v := .int (σ 5 0)) (C := RX1) (T := TX1) (N := 14) C.x C.b C.t in_X1 C.o C.2 G.1 0 rfl rfl 5 (by decide) (C.t _ q33) (fun _ h9 => h9) rfl d2 kk
theorem g1_p5 (C : g_C RX1 p s m args c cc nL D dI dZ) (G : g1_G D dI dZ A H0 h0 ad n σ H locs) {x : Int32} (d2 : decode cc pc = .ok (.putfield 53, 3)) (kk : ∀ (H1 : Heap) (locs1 : List Loc), g1_G D dI dZ A H0 h0 ad n (g_up σ 5 0 x) H1 locs1 → W p l e R s m args below meth c H1 locs1 cells slots Q (F0 m (pc + 3) ls rest)) : W p l e R s m args below meth c H locs cells slots Q (F0 m pc ls (.int x :: .ref h0 :: rest)) :=
  va_put (D := D) (ci := 0) (v := .int x) (ty := .int) (C := RX1) (T := TX1) (N := 14) C.x C.b C.t in_X1 tyX1 tyX1_ok nmX1 C.o C.2 G.1 G.2.1 G.2.2 0 rfl rfl 5 (by decide) (C.t _ q33) (fun _ h9 => h9) rfl (by decide +kernel) rfl rfl (Nat.le_of_ble_eq_true rfl) d2 (fun H1 locs1 hP hD hS => kk H1 locs1 ⟨hP, hD, hS⟩)
/-- aload_0, getfield left -/
theorem g1_f6 (C : g_C RX1 p s m args c cc nL D dI dZ) (G : g1_G D dI dZ A H0 h0 ad n σ H locs) (hl : ls[0]? = some (.val (.ref h0))) (d1 : decode cc pc = .ok (.aload_n 0, 1)) (d2 : decode cc (pc + 1) = .ok (.getfield 23, 3)) (kk : W p l e R s m args below meth c H locs cells slots Q (F0 m (pc + 4) ls (.ref (ad 6) :: rest))) : W p l e R s m args below meth c H locs cells slots Q (F0 m pc ls rest) :=
  lv_aload_n C.x C.b d1 rfl hl (va_get (D := D) (ci := 0) (v := .ref (ad 6)) (C := RX1) (T := TX1) (N := 14) C.x C.b C.t in_X1 C.o C.2 G.1 0 rfl rfl 6 (by decide) (C.t _ q34) (fun _ h9 => h9) rfl d2 kk)
theorem g1_g6 (C : g_C RX1 p s m args c cc nL D dI dZ) (G : g1_G D dI dZ A H0 h0 ad n σ H locs) (d2 : decode cc pc = .ok (.getfield 23, 3)) (kk : W p l e R s m args below meth c H locs cells slots Q (F0 m (pc + 3) ls (.ref (ad 6) :: rest))) : W p l e R s m args below meth c H locs cells slots Q (F0 m pc ls (.ref h0 :: rest)) :=
  va_get (D := D) (ci := 0) (v := .ref (ad 6)) (C := RX1) (T := TX1) (N := 14) C.x C.b C.t in_X1 C.o C.2 G.1 0 rfl rfl 6 (by decide) (C.t _ q34) (fun _ h9 => h9) rfl d2 kk
theorem g1_l6 (C : g_C RX1 p s m args c cc nL D dI dZ) (G : g1_G D dI dZ A H0 h0 ad n σ H locs) {i : Int32} (j : Nat) (hj : j < 9) (ei : i = nI j) (d2 : decode cc pc = .ok (.baload, 1)) (kk : W p l e R s m args below meth c H locs cells slots Q (F0 m (pc + 1) ls (.int (σ 6 j) :: rest))) : W p l e R s m args below meth c H locs cells slots Q (F0 m pc ls (.int i :: .ref (ad 6) :: rest)) := by
  subst ei
  refine va_zald C.x C.b C.2 G.1 5 1 rfl rfl (vp_in_nI hj (by decide)) d2 ?_
  rw [nI_clamp (Nat.lt_trans hj (by decide))]
  exact kk
theorem g1_s6 (C : g_C RX1 p s m args c cc nL D dI dZ) (G : g1_G D dI dZ A H0 h0 ad n σ H locs) {i x : Int32} (j : Nat) (hj : j < 9) (ei : i = nI j) (hz : vp_nar .boolean x = x) (d2 : decode cc pc = .ok (.bastore, 1)) (kk : ∀ (H1 : Heap) (locs1 : List Loc), g1_G D dI dZ A H0 h0 ad n (g_up σ 6 j x) H1 locs1 → W p l e R s m args below meth c H1 locs1 cells slots Q (F0 m (pc + 1) ls rest)) : W p l e R s m args below meth c H locs cells slots Q (F0 m pc ls (.int x :: .int i :: .ref (ad 6) :: rest)) := by
  subst ei
  refine va_zast C.x C.b C.2 G.1 G.2.1 G.2.2 5 1 rfl rfl (vp_in_nI hj (by decide)) d2 (fun H1 locs1 hP hD hS => ?_)
  rw [nI_clamp (Nat.lt_trans hj (by decide)), hz] at hP hD
  exact kk H1 locs1 ⟨hP, hD, hS⟩
/-- aload_0, getfield ordered -/
theorem g1_f7 (C : g_C RX1 p s m args c cc nL D dI dZ) (G : g1_G D dI dZ A H0 h0 ad n σ H locs) (hl : ls[0]? = some (.val (.ref h0))) (d1 : decode cc pc = .ok (.aload_n 0, 1)) (d2 : decode cc (pc + 1) = .ok (.getfield 26, 3)) (kk : W p l e R s m args below meth c H locs cells slots Q (F0 m (pc + 4) ls (.ref (ad 7) :: rest))) : W p l e R s m args below meth c H locs cells slots Q (F0 m pc ls rest) :=
  lv_aload_n C.x C.b d1 rfl hl (va_get (D := D) (ci := 0) (v := .ref (ad 7)) (C := RX1) (T := TX1) (N := 14) C.x C.b C.t in_X1 C.o C.2 G.1 0 rfl rfl 7 (by decide) (C.t _ q35) (fun _ h9 => h9) rfl d2 kk)
theorem g1_g7 (C : g_C RX1 p s m args c cc nL D dI dZ) (G : g1_G D dI dZ A H0 h0 ad n σ H locs) (d2 : decode cc pc = .ok (.getfield 26, 3)) (kk : W p l e R s m args below meth c H locs cells slots Q (F0 m (pc + 3) ls (.ref (ad 7) :: rest))) : W p l e R s m args below meth c H locs cells slots Q (F0 m pc ls (.ref h0 :: rest)) :=
  va_get (D := D) (ci := 0) (v := .ref (ad 7)) (C := RX1) (T := TX1) (N := 14) C.x C.b C.t in_X1 C.o C.2 G.1 0 rfl rfl 7 (by decide) (C.t _ q35) (fun _ h9 => h9) rfl d2 kk
theorem g1_l7 (C : g_C RX1 p s m args c cc nL D dI dZ) (G : g1_G D dI dZ A H0 h0 ad n σ H locs) {i : Int32} (j : Nat) (hj : j < 9) (ei : i = nI j) (d2 : decode cc pc = .ok (.baload, 1)) (kk : W p l e R s m args below meth c H locs cells slots Q (F0 m (pc + 1) ls (.int (σ 7 j) :: rest))) : W p l e R s m args below meth c H locs cells slots Q (F0 m pc ls (.int i :: .ref (ad 7) :: rest)) := by
  subst ei
  refine va_zald C.x C.b C.2 G.1 6 1 rfl rfl (vp_in_nI hj (by decide)) d2 ?_
  rw [nI_clamp (Nat.lt_trans hj (by decide))]
  exact kk
theorem g1_s7 (C : g_C RX1 p s m args c cc nL D dI dZ) (G : g1_G D dI dZ A H0 h0 ad n σ H locs) {i x : Int32} (j : Nat) (hj : j < 9) (ei : i = nI j) (hz : vp_nar .boolean x = x) (d2 : decode cc pc = .ok (.bastore, 1)) (kk : ∀ (H1 : Heap) (locs1 : List Loc), g1_G D dI dZ A H0 h0 ad n (g_up σ 7 j x) H1 locs1 → W p l e R s m args below meth c H1 locs1 cells slots Q (F0 m (pc + 1) ls rest)) : W p l e R s m args below meth c H locs cells slots Q (F0 m pc ls (.int x :: .int i :: .ref (ad 7) :: rest)) := by
  subst ei
  refine va_zast C.x C.b C.2 G.1 G.2.1 G.2.2 6 1 rfl rfl (vp_in_nI hj (by decide)) d2 (fun H1 locs1 hP hD hS => ?_)
  rw [nI_clamp (Nat.lt_trans hj (by decide)), hz] at hP hD
  exact kk H1 locs1 ⟨hP, hD, hS⟩
/-- aload_0, getfield hang -/
theorem g1_f8 (C : g_C RX1 p s m args c cc nL D dI dZ) (G : g1_G D dI dZ A H0 h0 ad n σ H locs) (hl : ls[0]? = some (.val (.ref h0))) (d1 : decode cc pc = .ok (.aload_n 0, 1)) (d2 : decode cc (pc + 1) = .ok (.getfield 29, 3)) (kk : W p l e R s m args below meth c H locs cells slots Q (F0 m (pc + 4) ls (.ref (ad 8) :: rest))) : W p l e R s m args below meth c H locs cells slots Q (F0 m pc ls rest) :=
  lv_aload_n C.x C.b d1 rfl hl (va_get (D := D) (ci := 0) (v := .ref (ad 8)) (C := RX1) (T := TX1) (N := 14) C.x C.b C.t in_X1 C.o C.2 G.1 0 rfl rfl 8 (by decide) (C.t _ q36) (fun _ h9 => h9) rfl d2 kk)
theorem g1_g8 (C : g_C RX1 p s m args c cc nL D dI dZ) (G : g1_G D dI dZ A H0 h0 ad n σ H locs) (d2 : decode cc pc = .ok (.getfield 29, 3)) (kk : W p l e R s m args below meth c H locs cells slots Q (F0 m (pc + 3) ls (.ref (ad 8) :: rest))) : W p l e R s m args below meth c H locs cells slots Q (F0 m pc ls (.ref h0 :: rest)) :=
  va_get (D := D) (ci := 0) (v := .ref (ad 8)) (C := RX1) (T := TX1) (N := 14) C.x C.b C.t in_X1 C.o C.2 G.1 0 rfl rfl 8 (by decide) (C.t _ q36) (fun _ h9 => h9) rfl d2 kk
theorem g1_l8 (C : g_C RX1 p s m args c cc nL D dI dZ) (G : g1_G D dI dZ A H0 h0 ad n σ H locs) {i : Int32} (j : Nat) (hj : j < 9) (ei : i = nI j) (d2 : decode cc pc = .ok (.iaload, 1)) (kk : W p l e R s m args below meth c H locs cells slots Q (F0 m (pc + 1) ls (.int (σ 8 j) :: rest))) : W p l e R s m args below meth c H locs cells slots Q (F0 m pc ls (.int i :: .ref (ad 8) :: rest)) := by
  subst ei
  refine va_iald C.x C.b C.2 G.1 7 0 rfl rfl (vp_in_nI hj (by decide)) d2 ?_
  rw [nI_clamp (Nat.lt_trans hj (by decide))]
  exact kk
theorem g1_s8 (C : g_C RX1 p s m args c cc nL D dI dZ) (G : g1_G D dI dZ A H0 h0 ad n σ H locs) {i x : Int32} (j : Nat) (hj : j < 9) (ei : i = nI j) (d2 : decode cc pc = .ok (.iastore, 1)) (kk : ∀ (H1 : Heap) (locs1 : List Loc), g1_G D dI dZ A H0 h0 ad n (g_up σ 8 j x) H1 locs1 → W p l e R s m args below meth c H1 locs1 cells slots Q (F0 m (pc + 1) ls rest)) : W p l e R s m args below meth c H locs cells slots Q (F0 m pc ls (.int x :: .int i :: .ref (ad 8) :: rest)) := by
  subst ei
  refine va_iast C.x C.b C.2 G.1 G.2.1 G.2.2 7 0 rfl rfl (vp_in_nI hj (by decide)) d2 (fun H1 locs1 hP hD hS => ?_)
  rw [nI_clamp (Nat.lt_trans hj (by decide))] at hP hD
  exact kk H1 locs1 ⟨hP, hD, hS⟩
/-- aload_0, getfield last -/
theorem g1_f9 (C : g_C RX1 p s m args c cc nL D dI dZ) (G : g1_G D dI dZ A H0 h0 ad n σ H locs) (hl : ls[0]? = some (.val (.ref h0))) (d1 : decode cc pc = .ok (.aload_n 0, 1)) (d2 : decode cc (pc + 1) = .ok (.getfield 56, 3)) (kk : W p l e R s m args below meth c H locs cells slots Q (F0 m (pc + 4) ls (.int (σ 9 0) :: rest))) : W p l e R s m args below meth c H locs cells slots Q (F0 m pc ls rest) :=
  lv_aload_n C.x C.b d1 rfl hl (va_get (D := D) (ci := 0) (v := .int (σ 9 0)) (C := RX1) (T := TX1) (N := 14) C.x C.b C.t in_X1 C.o C.2 G.1 0 rfl rfl 9 (by decide) (C.t _ q37) (fun _ h9 => h9) rfl d2 kk)
theorem g1_g9 (C : g_C RX1 p s m args c cc nL D dI dZ) (G : g1_G D dI dZ A H0 h0 ad n σ H locs) (d2 : decode cc pc = .ok (.getfield 56, 3)) (kk : W p l e R s m args below meth c H locs cells slots Q (F0 m (pc + 3) ls (.int (σ 9 0) :: rest))) : W p l e R s m args below meth c H locs cells slots Q (F0 m pc ls (.ref h0 :: rest)) :=
  va_get (D := D) (ci := 0) (v := .int (σ 9 0)) (C := RX1) (T := TX1) (N := 14) C.x C.b C.t in_X1 C.o C.2 G.1 0 rfl rfl 9 (by decide) (C.t _ q37) (fun _ h9 => h9) rfl d2 kk
theorem g1_p9 (C : g_C RX1 p s m args c cc nL D dI dZ) (G : g1_G D dI dZ A H0 h0 ad n σ H locs) {x : Int32} (d2 : decode cc pc = .ok (.putfield 56, 3)) (kk : ∀ (H1 : Heap) (locs1 : List Loc), g1_G D dI dZ A H0 h0 ad n (g_up σ 9 0 x) H1 locs1 → W p l e R s m args below meth c H1 locs1 cells slots Q (F0 m (pc + 3) ls rest)) : W p l e R s m args below meth c H locs cells slots Q (F0 m pc ls (.int x :: .ref h0 :: rest)) :=
  va_put (D := D) (ci := 0) (v := .int x) (ty := .int) (C := RX1) (T := TX1) (N := 14) C.x C.b C.t in_X1 tyX1 tyX1_ok nmX1 C.o C.2 G.1 G.2.1 G.2.2 0 rfl rfl 9 (by decide) (C.t _ q37) (fun _ h9 => h9) rfl (by decide +kernel) rfl rfl (Nat.le_of_ble_eq_true rfl) d2 (fun H1 locs1 hP hD hS => kk H1 locs1 ⟨hP, hD, hS⟩)
/-- aload_0, getfield beforeLast -/
theorem g1_f10 (C : g_C RX1 p s m args c cc nL D dI dZ) (G : g1_G D dI dZ A H0 h0 ad n σ H locs) (hl : ls[0]? = some (.val (.ref h0))) (d1 : decode cc pc = .ok (.aload_n 0, 1)) (d2 : decode cc (pc + 1) = .ok (.getfield 59, 3)) (kk : W p l e R s m args below meth c H locs cells slots Q (F0 m (pc + 4) ls (.int (σ 10 0) :: rest))) : W p l e R s m args below meth c H locs cells slots Q (F0 m pc ls rest) :=
  lv_aload_n C.x C.b d1 rfl hl (va_get (D := D) (ci := 0) (v := .int (σ 10 0)) (C := RX1) (T := TX1) (N := 14) C.x C.b C.t in_X1 C.o C.2 G.1 0 rfl rfl 10 (by decide) (C.t _ q38) (fun _ h9 => h9) rfl d2 kk)
theorem g1_g10 (C : g_C RX1 p s m args c cc nL D dI dZ) (G : g1_G D dI dZ A H0 h0 ad n σ H locs) (d2 : decode cc pc = .ok (.getfield 59, 3)) (kk : W p l e R s m args below meth c H locs cells slots Q (F0 m (pc + 3) ls (.int (σ 10 0) :: rest))) : W p l e R s m args below meth c H locs cells slots Q (F0 m pc ls (.ref h0 :: rest)) :=
  va_get (D := D) (ci := 0) (v := .int (σ 10 0)) (C := RX1) (T := TX1) (N := 14) C.x C.b C.t in_X1 C.o C.2 G.1 0 rfl rfl 10 (by decide) (C.t _ q38) (fun _ h9 => h9) rfl d2 kk
theorem g1_p10 (C : g_C RX1 p s m args c cc nL D dI dZ) (G : g1_G D dI dZ A H0 h0 ad n σ H locs) {x : Int32} (d2 : decode cc pc = .ok (.putfield 59, 3)) (kk : ∀ (H1 : Heap) (locs1 : List Loc), g1_G D dI dZ A H0 h0 ad n (g_up σ 10 0 x) H1 locs1 → W p l e R s m args below meth c H1 locs1 cells slots Q (F0 m (pc + 3) ls rest)) : W p l e R s m args below meth c H locs cells slots Q (F0 m pc ls (.int x :: .ref h0 :: rest)) :=
  va_put (D := D) (ci := 0) (v := .int x) (ty := .int) (C := RX1) (T := TX1) (N := 14) C.x C.b C.t in_X1 tyX1 tyX1_ok nmX1 C.o C.2 G.1 G.2.1 G.2.2 0 rfl rfl 10 (by decide) (C.t _ q38) (fun _ h9 => h9) rfl (by decide +kernel) rfl rfl (Nat.le_of_ble_eq_true rfl) d2 (fun H1 locs1 hP hD hS => kk H1 locs1 ⟨hP, hD, hS⟩)
/-- aload_0, getfield room -/
theorem g1_f11 (C : g_C RX1 p s m args c cc nL D dI dZ) (G : g1_G D dI dZ A H0 h0 ad n σ H locs) (hl : ls[0]? = some (.val (.ref h0))) (d1 : decode cc pc = .ok (.aload_n 0, 1)) (d2 : decode cc (pc + 1) = .ok (.getfield 32, 3)) (kk : W p l e R s m args below meth c H locs cells slots Q (F0 m (pc + 4) ls (.ref (ad 11) :: rest))) : W p l e R s m args below meth c H locs cells slots Q (F0 m pc ls rest) :=
  lv_aload_n C.x C.b d1 rfl hl (va_get (D := D) (ci := 0) (v := .ref (ad 11)) (C := RX1) (T := TX1) (N := 14) C.x C.b C.t in_X1 C.o C.2 G.1 0 rfl rfl 11 (by decide) (C.t _ q39) (fun _ h9 => h9) rfl d2 kk)
theorem g1_g11 (C : g_C RX1 p s m args c cc nL D dI dZ) (G : g1_G D dI dZ A H0 h0 ad n σ H locs) (d2 : decode cc pc = .ok (.getfield 32, 3)) (kk : W p l e R s m args below meth c H locs cells slots Q (F0 m (pc + 3) ls (.ref (ad 11) :: rest))) : W p l e R s m args below meth c H locs cells slots Q (F0 m pc ls (.ref h0 :: rest)) :=
  va_get (D := D) (ci := 0) (v := .ref (ad 11)) (C := RX1) (T := TX1) (N := 14) C.x C.b C.t in_X1 C.o C.2 G.1 0 rfl rfl 11 (by decide) (C.t _ q39) (fun _ h9 => h9) rfl d2 kk
theorem g1_l11 (C : g_C RX1 p s m args c cc nL D dI dZ) (G : g1_G D dI dZ A H0 h0 ad n σ H locs) {i : Int32} (j : Nat) (hj : j < 81) (ei : i = nI j) (d2 : decode cc pc = .ok (.iaload, 1)) (kk : W p l e R s m args below meth c H locs cells slots Q (F0 m (pc + 1) ls (.int (σ 11 j) :: rest))) : W p l e R s m args below meth c H locs cells slots Q (F0 m pc ls (.int i :: .ref (ad 11) :: rest)) := by
  subst ei
  refine va_iald C.x C.b C.2 G.1 8 0 rfl rfl (vp_in_nI hj (by decide)) d2 ?_
  rw [nI_clamp (Nat.lt_trans hj (by decide))]
  exact kk
theorem g1_s11 (C : g_C RX1 p s m args c cc nL D dI dZ) (G : g1_G D dI dZ A H0 h0 ad n σ H locs) {i x : Int32} (j : Nat) (hj : j < 81) (ei : i = nI j) (d2 : decode cc pc = .ok (.iastore, 1)) (kk : ∀ (H1 : Heap) (locs1 : List Loc), g1_G D dI dZ A H0 h0 ad n (g_up σ 11 j x) H1 locs1 → W p l e R s m args below meth c H1 locs1 cells slots Q (F0 m (pc + 1) ls rest)) : W p l e R s m args below meth c H locs cells slots Q (F0 m pc ls (.int x :: .int i :: .ref (ad 11) :: rest)) := by
  subst ei
  refine va_iast C.x C.b C.2 G.1 G.2.1 G.2.2 8 0 rfl rfl (vp_in_nI hj (by decide)) d2 (fun H1 locs1 hP hD hS => ?_)
  rw [nI_clamp (Nat.lt_trans hj (by decide))] at hP hD
  exact kk H1 locs1 ⟨hP, hD, hS⟩
/-- aload_0, getfield cameFrom -/
theorem g1_f12 (C : g_C RX1 p s m args c cc nL D dI dZ) (G : g1_G D dI dZ A H0 h0 ad n σ H locs) (hl : ls[0]? = some (.val (.ref h0))) (d1 : decode cc pc = .ok (.aload_n 0, 1)) (d2 : decode cc (pc + 1) = .ok (.getfield 35, 3)) (kk : W p l e R s m args below meth c H locs cells slots Q (F0 m (pc + 4) ls (.ref (ad 12) :: rest))) : W p l e R s m args below meth c H locs cells slots Q (F0 m pc ls rest) :=
  lv_aload_n C.x C.b d1 rfl hl (va_get (D := D) (ci := 0) (v := .ref (ad 12)) (C := RX1) (T := TX1) (N := 14) C.x C.b C.t in_X1 C.o C.2 G.1 0 rfl rfl 12 (by decide) (C.t _ q40) (fun _ h9 => h9) rfl d2 kk)
theorem g1_g12 (C : g_C RX1 p s m args c cc nL D dI dZ) (G : g1_G D dI dZ A H0 h0 ad n σ H locs) (d2 : decode cc pc = .ok (.getfield 35, 3)) (kk : W p l e R s m args below meth c H locs cells slots Q (F0 m (pc + 3) ls (.ref (ad 12) :: rest))) : W p l e R s m args below meth c H locs cells slots Q (F0 m pc ls (.ref h0 :: rest)) :=
  va_get (D := D) (ci := 0) (v := .ref (ad 12)) (C := RX1) (T := TX1) (N := 14) C.x C.b C.t in_X1 C.o C.2 G.1 0 rfl rfl 12 (by decide) (C.t _ q40) (fun _ h9 => h9) rfl d2 kk
theorem g1_l12 (C : g_C RX1 p s m args c cc nL D dI dZ) (G : g1_G D dI dZ A H0 h0 ad n σ H locs) {i : Int32} (j : Nat) (hj : j < 9) (ei : i = nI j) (d2 : decode cc pc = .ok (.iaload, 1)) (kk : W p l e R s m args below meth c H locs cells slots Q (F0 m (pc + 1) ls (.int (σ 12 j) :: rest))) : W p l e R s m args below meth c H locs cells slots Q (F0 m pc ls (.int i :: .ref (ad 12) :: rest)) := by
  subst ei
  refine va_iald C.x C.b C.2 G.1 9 0 rfl rfl (vp_in_nI hj (by decide)) d2 ?_
  rw [nI_clamp (Nat.lt_trans hj (by decide))]
  exact kk
theorem g1_s12 (C : g_C RX1 p s m args c cc nL D dI dZ) (G : g1_G D dI dZ A H0 h0 ad n σ H locs) {i x : Int32} (j : Nat) (hj : j < 9) (ei : i = nI j) (d2 : decode cc pc = .ok (.iastore, 1)) (kk : ∀ (H1 : Heap) (locs1 : List Loc), g1_G D dI dZ A H0 h0 ad n (g_up σ 12 j x) H1 locs1 → W p l e R s m args below meth c H1 locs1 cells slots Q (F0 m (pc + 1) ls rest)) : W p l e R s m args below meth c H locs cells slots Q (F0 m pc ls (.int x :: .int i :: .ref (ad 12) :: rest)) := by
  subst ei
  refine va_iast C.x C.b C.2 G.1 G.2.1 G.2.2 9 0 rfl rfl (vp_in_nI hj (by decide)) d2 (fun H1 locs1 hP hD hS => ?_)
  rw [nI_clamp (Nat.lt_trans hj (by decide))] at hP hD
  exact kk H1 locs1 ⟨hP, hD, hS⟩
/-- aload_0, getfield queue -/
theorem g1_f13 (C : g_C RX1 p s m args c cc nL D dI dZ) (G : g1_G D dI dZ A H0 h0 ad n σ H locs) (hl : ls[0]? = some (.val (.ref h0))) (d1 : decode cc pc = .ok (.aload_n 0, 1)) (d2 : decode cc (pc + 1) = .ok (.getfield 38, 3)) (kk : W p l e R s m args below meth c H locs cells slots Q (F0 m (pc + 4) ls (.ref (ad 13) :: rest))) : W p l e R s m args below meth c H locs cells slots Q (F0 m pc ls rest) :=
  lv_aload_n C.x C.b d1 rfl hl (va_get (D := D) (ci := 0) (v := .ref (ad 13)) (C := RX1) (T := TX1) (N := 14) C.x C.b C.t in_X1 C.o C.2 G.1 0 rfl rfl 13 (by decide) (C.t _ q41) (fun _ h9 => h9) rfl d2 kk)
theorem g1_g13 (C : g_C RX1 p s m args c cc nL D dI dZ) (G : g1_G D dI dZ A H0 h0 ad n σ H locs) (d2 : decode cc pc = .ok (.getfield 38, 3)) (kk : W p l e R s m args below meth c H locs cells slots Q (F0 m (pc + 3) ls (.ref (ad 13) :: rest))) : W p l e R s m args below meth c H locs cells slots Q (F0 m pc ls (.ref h0 :: rest)) :=
  va_get (D := D) (ci := 0) (v := .ref (ad 13)) (C := RX1) (T := TX1) (N := 14) C.x C.b C.t in_X1 C.o C.2 G.1 0 rfl rfl 13 (by decide) (C.t _ q41) (fun _ h9 => h9) rfl d2 kk
theorem g1_l13 (C : g_C RX1 p s m args c cc nL D dI dZ) (G : g1_G D dI dZ A H0 h0 ad n σ H locs) {i : Int32} (j : Nat) (hj : j < 9) (ei : i = nI j) (d2 : decode cc pc = .ok (.iaload, 1)) (kk : W p l e R s m args below meth c H locs cells slots Q (F0 m (pc + 1) ls (.int (σ 13 j) :: rest))) : W p l e R s m args below meth c H locs cells slots Q (F0 m pc ls (.int i :: .ref (ad 13) :: rest)) := by
  subst ei
  refine va_iald C.x C.b C.2 G.1 10 0 rfl rfl (vp_in_nI hj (by decide)) d2 ?_
  rw [nI_clamp (Nat.lt_trans hj (by decide))]
  exact kk
theorem g1_s13 (C : g_C RX1 p s m args c cc nL D dI dZ) (G : g1_G D dI dZ A H0 h0 ad n σ H locs) {i x : Int32} (j : Nat) (hj : j < 9) (ei : i = nI j) (d2 : decode cc pc = .ok (.iastore, 1)) (kk : ∀ (H1 : Heap) (locs1 : List Loc), g1_G D dI dZ A H0 h0 ad n (g_up σ 13 j x) H1 locs1 → W p l e R s m args below meth c H1 locs1 cells slots Q (F0 m (pc + 1) ls rest)) : W p l e R s m args below meth c H locs cells slots Q (F0 m pc ls (.int x :: .int i :: .ref (ad 13) :: rest)) := by
  subst ei
  refine va_iast C.x C.b C.2 G.1 G.2.1 G.2.2 10 0 rfl rfl (vp_in_nI hj (by decide)) d2 (fun H1 locs1 hP hD hS => ?_)
  rw [nI_clamp (Nat.lt_trans hj (by decide))] at hP hD
  exact kk H1 locs1 ⟨hP, hD, hS⟩
/-- aload_0, getfield n -/
theorem g2_f0 (C : g_C RX2 p s m args c cc nL D dI dZ) (G : g2_G D dI dZ A H0 h0 ad n σ H locs) (hl : ls[0]? = some (.val (.ref h0))) (d1 : decode cc pc = .ok (.aload_n 0, 1)) (d2 : decode cc (pc + 1) = .ok (.getfield 17, 3)) (kk : W p l e R s m args below meth c H locs cells slots Q (F0 m (pc + 4) ls (.int (nI n) :: rest))) : W p l e R s m args below meth c H locs cells slots Q (F0 m pc ls rest) :=
  lv_aload_n C.x C.b d1 rfl hl (va_get (D := D) (ci := 1) (v := .int (nI n)) (C := RX2) (T := TX2) (N := 3) C.x C.b C.t in_X2 C.o C.2 G.1 0 rfl rfl 0 (by decide) (C.t _ q172) (fun _ h9 => h9) rfl d2 kk)
theorem g2_g0 (C : g_C RX2 p s m args c cc nL D dI dZ) (G : g2_G D dI dZ A H0 h0 ad n σ H locs) (d2 : decode cc pc = .ok (.getfield 17, 3)) (kk : W p l e R s m args below meth c H locs cells slots Q (F0 m (pc + 3) ls (.int (nI n) :: rest))) : W p l e R s m args below meth c H locs cells slots Q (F0 m pc ls (.ref h0 :: rest)) :=
  va_get (D := D) (ci := 1) (v := .int (nI n)) (C := RX2) (T := TX2) (N := 3) C.x C.b C.t in_X2 C.o C.2 G.1 0 rfl rfl 0 (by decide) (C.t _ q172) (fun _ h9 => h9) rfl d2 kk
/-- aload_0, getfield w -/
theorem g2_f1 (C : g_C RX2 p s m args c cc nL D dI dZ) (G : g2_G D dI dZ A H0 h0 ad n σ H locs) (hl : ls[0]? = some (.val (.ref h0))) (d1 : decode cc pc = .ok (.aload_n 0, 1)) (d2 : decode cc (pc + 1) = .ok (.getfield 7, 3)) (kk : W p l e R s m args below meth c H locs cells slots Q (F0 m (pc + 4) ls (.ref (ad 1) :: rest))) : W p l e R s m args below meth c H locs cells slots Q (F0 m pc ls rest) :=
  lv_aload_n C.x C.b d1 rfl hl (va_get (D := D) (ci := 1) (v := .ref (ad 1)) (C := RX2) (T := TX2) (N := 3) C.x C.b C.t in_X2 C.o C.2 G.1 0 rfl rfl 1 (by decide) (C.t _ q173) (fun _ h9 => h9) rfl d2 kk)
theorem g2_g1 (C : g_C RX2 p s m args c cc nL D dI dZ) (G : g2_G D dI dZ A H0 h0 ad n σ H locs) (d2 : decode cc pc = .ok (.getfield 7, 3)) (kk : W p l e R s m args below meth c H locs cells slots Q (F0 m (pc + 3) ls (.ref (ad 1) :: rest))) : W p l e R s m args below meth c H locs cells slots Q (F0 m pc ls (.ref h0 :: rest)) :=
  va_get (D := D) (ci := 1) (v := .ref (ad 1)) (C := RX2) (T := TX2) (N := 3) C.x C.b C.t in_X2 C.o C.2 G.1 0 rfl rfl 1 (by decide) (C.t _ q173) (fun _ h9 => h9) rfl d2 kk
theorem g2_l1 (C : g_C RX2 p s m args c cc nL D dI dZ) (G : g2_G D dI dZ A H0 h0 ad n σ H locs) {i : Int32} (j : Nat) (hj : j < 81) (ei : i = nI j) (d2 : decode cc pc = .ok (.iaload, 1)) (kk : W p l e R s m args below meth c H locs cells slots Q (F0 m (pc + 1) ls (.int (σ 1 j) :: rest))) : W p l e R s m args below meth c H locs cells slots Q (F0 m pc ls (.int i :: .ref (ad 1) :: rest)) := by
  subst ei
  refine va_iald C.x C.b C.2 G.1 1 0 rfl rfl (vp_in_nI hj (by decide)) d2 ?_
  rw [nI_clamp (Nat.lt_trans hj (by decide))]
  exact kk
theorem g2_s1 (C : g_C RX2 p s m args c cc nL D dI dZ) (G : g2_G D dI dZ A H0 h0 ad n σ H locs) {i x : Int32} (j : Nat) (hj : j < 81) (ei : i = nI j) (d2 : decode cc pc = .ok (.iastore, 1)) (kk : ∀ (H1 : Heap) (locs1 : List Loc), g2_G D dI dZ A H0 h0 ad n (g_up σ 1 j x) H1 locs1 → W p l e R s m args below meth c H1 locs1 cells slots Q (F0 m (pc + 1) ls rest)) : W p l e R s m args below meth c H locs cells slots Q (F0 m pc ls (.int x :: .int i :: .ref (ad 1) :: rest)) := by
  subst ei
  refine va_iast C.x C.b C.2 G.1 G.2.1 G.2.2 1 0 rfl rfl (vp_in_nI hj (by decide)) d2 (fun H1 locs1 hP hD hS => ?_)
  rw [nI_clamp (Nat.lt_trans hj (by decide))] at hP hD
  exact kk H1 locs1 ⟨hP, hD, hS⟩
/-- aload_0, getfield glued -/
theorem g2_f2 (C : g_C RX2 p s m args c cc nL D dI dZ) (G : g2_G D dI dZ A H0 h0 ad n σ H locs) (hl : ls[0]? = some (.val (.ref h0))) (d1 : decode cc pc = .ok (.aload_n 0, 1)) (d2 : decode cc (pc + 1) = .ok (.getfield 13, 3)) (kk : W p l e R s m args below meth c H locs cells slots Q (F0 m (pc + 4) ls (.ref (ad 2) :: rest))) : W p l e R s m args below meth c H locs cells slots Q (F0 m pc ls rest) :=
  lv_aload_n C.x C.b d1 rfl hl (va_get (D := D) (ci := 1) (v := .ref (ad 2)) (C := RX2) (T := TX2) (N := 3) C.x C.b C.t in_X2 C.o C.2 G.1 0 rfl rfl 2 (by decide) (C.t _ q174) (fun _ h9 => h9) rfl d2 kk)
theorem g2_g2 (C : g_C RX2 p s m args c cc nL D dI dZ) (G : g2_G D dI dZ A H0 h0 ad n σ H locs) (d2 : decode cc pc = .ok (.getfield 13, 3)) (kk : W p l e R s m args below meth c H locs cells slots Q (F0 m (pc + 3) ls (.ref (ad 2) :: rest))) : W p l e R s m args below meth c H locs cells slots Q (F0 m pc ls (.ref h0 :: rest)) :=
  va_get (D := D) (ci := 1) (v := .ref (ad 2)) (C := RX2) (T := TX2) (N := 3) C.x C.b C.t in_X2 C.o C.2 G.1 0 rfl rfl 2 (by decide) (C.t _ q174) (fun _ h9 => h9) rfl d2 kk
theorem g2_l2 (C : g_C RX2 p s m args c cc nL D dI dZ) (G : g2_G D dI dZ A H0 h0 ad n σ H locs) {i : Int32} (j : Nat) (hj : j < 81) (ei : i = nI j) (d2 : decode cc pc = .ok (.baload, 1)) (kk : W p l e R s m args below meth c H locs cells slots Q (F0 m (pc + 1) ls (.int (σ 2 j) :: rest))) : W p l e R s m args below meth c H locs cells slots Q (F0 m pc ls (.int i :: .ref (ad 2) :: rest)) := by
  subst ei
  refine va_zald C.x C.b C.2 G.1 2 1 rfl rfl (vp_in_nI hj (by decide)) d2 ?_
  rw [nI_clamp (Nat.lt_trans hj (by decide))]
  exact kk
theorem g2_s2 (C : g_C RX2 p s m args c cc nL D dI dZ) (G : g2_G D dI dZ A H0 h0 ad n σ H locs) {i x : Int32} (j : Nat) (hj : j < 81) (ei : i = nI j) (hz : vp_nar .boolean x = x) (d2 : decode cc pc = .ok (.bastore, 1)) (kk : ∀ (H1 : Heap) (locs1 : List Loc), g2_G D dI dZ A H0 h0 ad n (g_up σ 2 j x) H1 locs1 → W p l e R s m args below meth c H1 locs1 cells slots Q (F0 m (pc + 1) ls rest)) : W p l e R s m args below meth c H locs cells slots Q (F0 m pc ls (.int x :: .int i :: .ref (ad 2) :: rest)) := by
  subst ei
  refine va_zast C.x C.b C.2 G.1 G.2.1 G.2.2 2 1 rfl rfl (vp_in_nI hj (by decide)) d2 (fun H1 locs1 hP hD hS => ?_)
  rw [nI_clamp (Nat.lt_trans hj (by decide)), hz] at hP hD
  exact kk H1 locs1 ⟨hP, hD, hS⟩
end G1
end
section
/-! contracts of the methods of one object: the picture σ before, 'post answer picture' behind -/
set_option maxRecDepth 100000
def g_B (D : va_G) (dI dZ : ClassId) (wf : g_St → va_W) (A : Nat → Prop) (σ : g_St) (t : State) : Prop := va_P D vwCl (wf σ) t.heap ∧ va_K D vwCl (g_tys dI dZ) t ∧ va_D A (wf σ)
abbrev g_rm (fr lo : Nat) : Room := { frames := fr, cells := 0, slots := 0, locals := lo }
def g_Mi (l : Launch) (D : va_G) (dI dZ : ClassId) (wf : g_St → va_W) (h0 : Nat) (y : MethodName) (cy : ByteArray) (nY : Nat) (ty : FieldType) (fr lo : Nat) (As : List Value) (σ : g_St) (post : Int32 → g_St → Prop) : Prop :=
  ∀ sz : Nat, Met l y (ws_ y cy nY (some ty)) (g_rm fr lo) (va_Pc (.ref h0 :: As) (fun U => U.heap.size = sz ∧ g_B D dI dZ wf (fun _ => True) σ U)) (va_Qi post (g_B D dI dZ wf (va_A (wf σ) sz)) (va_A (wf σ) sz)) 0 0 (va_A (wf σ) sz)
def g_Mv (l : Launch) (D : va_G) (dI dZ : ClassId) (wf : g_St → va_W) (h0 : Nat) (y : MethodName) (cy : ByteArray) (nY : Nat) (fr lo : Nat) (As : List Value) (σ : g_St) (post : g_St → Prop) : Prop :=
  ∀ sz : Nat, Met l y (ws_ y cy nY none) (g_rm fr lo) (va_Pc (.ref h0 :: As) (fun U => U.heap.size = sz ∧ g_B D dI dZ wf (fun _ => True) σ U)) (va_Qv post (g_B D dI dZ wf (va_A (wf σ) sz)) (va_A (wf σ) sz)) 0 0 (va_A (wf σ) sz)
/-- the goal behind a method's last instruction -/
abbrev g_Ei (D : va_G) (dI dZ : ClassId) (wf : g_St → va_W) (A : Nat → Prop) (below : List Frame) (args : Array Value) (s : State) (post : Int32 → g_St → Prop) : State → Prop := MQ below (va_Qi post (g_B D dI dZ wf A) A) args s 0 0 A
abbrev g_Ev (D : va_G) (dI dZ : ClassId) (wf : g_St → va_W) (A : Nat → Prop) (below : List Frame) (args : Array Value) (s : State) (post : g_St → Prop) : State → Prop := MQ below (va_Qv post (g_B D dI dZ wf A) A) args s 0 0 A
theorem g_starti {l : Launch} {D : va_G} {dI dZ : ClassId} {wf : g_St → va_W} {h0 : Nat} {y : MethodName} {cy : ByteArray} {nY : Nat} {ty : FieldType} {fr lo : Nat} {As : List Value} {σ : g_St} {post : Int32 → g_St → Prop} {own : String} (hy : plainName y.cls = true) (ho : y.cls = own) (hAs : (lg_sl (Value.ref h0 :: As)).length ≤ nY)
    (body : ∀ (p : Program) (e : Env) (s : State) (m : MethodId) (below : List Frame) (meth : Method) (c : Code) (A : Nat → Prop) (ls : Array Slot), meth.sig.returnType = some ty → meth.locks = false → (∀ q, s.heap.size ≤ q → A q) → g_C own p s m (Value.ref h0 :: As).toArray c cy nY D dI dZ → g_G D wf A s.heap σ s.heap [] → lv_has ls nY (lv_args 0 (Value.ref h0 :: As)) →
      W p l e (g_rm fr lo) s m (Value.ref h0 :: As).toArray below meth c s.heap [] 0 0 (g_Ei D dI dZ wf A below (Value.ref h0 :: As).toArray s post) (F0 m 0 ls [])) : g_Mi l D dI dZ wf h0 y cy nY ty fr lo As σ post := by
  intro sz
  refine Met.ofW (cc := cy) (maxL := nY) (ret := some ty) hy rfl ?_
  intro p e s m args below meth c s₁ B hml hv
  obtain ⟨rfl, hsz, hP, hK, hD0⟩ := hv
  subst hsz
  have hts := atoms_spec (ws := ws_ y cy nY (some ty)) B.pre
  have hts : ∀ w ∈ lw_all, w.before _ s = true := fun w h => hts w (List.mem_cons_of_mem _ h)
  have hown : s.vm.findClass own = some m.cls := ho ▸ findClass_of_methodNamed B.named
  have hl := lv_entry (Value.ref h0 :: As) (n := nY) hAs
  rw [lg_entry_eq]
  exact body p e s m below meth c (va_A (wf σ) s.heap.size) _ B.returns B.notSynchronized (fun q h => Or.inr h) ⟨⟨B.exec, B.bytes, hml, hown, hts⟩, hK⟩ ⟨hP, hD0.self, va_S.rf⟩ hl
theorem g_startv {l : Launch} {D : va_G} {dI dZ : ClassId} {wf : g_St → va_W} {h0 : Nat} {y : MethodName} {cy : ByteArray} {nY : Nat} {fr lo : Nat} {As : List Value} {σ : g_St} {post : g_St → Prop} {own : String} (hy : plainName y.cls = true) (ho : y.cls = own) (hAs : (lg_sl (Value.ref h0 :: As)).length ≤ nY)
    (body : ∀ (p : Program) (e : Env) (s : State) (m : MethodId) (below : List Frame) (meth : Method) (c : Code) (A : Nat → Prop) (ls : Array Slot), meth.sig.returnType = none → meth.locks = false → (∀ q, s.heap.size ≤ q → A q) → g_C own p s m (Value.ref h0 :: As).toArray c cy nY D dI dZ → g_G D wf A s.heap σ s.heap [] → lv_has ls nY (lv_args 0 (Value.ref h0 :: As)) →
      W p l e (g_rm fr lo) s m (Value.ref h0 :: As).toArray below meth c s.heap [] 0 0 (g_Ev D dI dZ wf A below (Value.ref h0 :: As).toArray s post) (F0 m 0 ls [])) : g_Mv l D dI dZ wf h0 y cy nY fr lo As σ post := by
  intro sz
  refine Met.ofW (cc := cy) (maxL := nY) (ret := none) hy rfl ?_
  intro p e s m args below meth c s₁ B hml hv
  obtain ⟨rfl, hsz, hP, hK, hD0⟩ := hv
  subst hsz
  have hts := atoms_spec (ws := ws_ y cy nY none) B.pre
  have hts : ∀ w ∈ lw_all, w.before _ s = true := fun w h => hts w (List.mem_cons_of_mem _ h)
  have hown : s.vm.findClass own = some m.cls := ho ▸ findClass_of_methodNamed B.named
  have hl := lv_entry (Value.ref h0 :: As) (n := nY) hAs
  rw [lg_entry_eq]
  exact body p e s m below meth c (va_A (wf σ) s.heap.size) _ B.returns B.notSynchronized (fun q h => Or.inr h) ⟨⟨B.exec, B.bytes, hml, hown, hts⟩, hK⟩ ⟨hP, hD0.self, va_S.rf⟩ hl
section G2
variable {p : Program} {l : Launch} {e : Env} {R : Room} {s : State} {m : MethodId} {args : Array Value} {below : List Frame} {meth : Method} {c : Code} {H : Heap} {locs : List Loc} {Q : State → Prop}
variable {cc : ByteArray} {pc nL : Nat} {ls : Array Slot} {rest : List Value} {D : va_G} {dI dZ : ClassId} {A : Nat → Prop} {H0 : Heap} {h0 : Nat} {wf : g_St → va_W} {σ σ1 : g_St} {own : String}
theorem g_iret {post : Int32 → g_St → Prop} {r : Int32} (C : g_C own p s m args c cc nL D dI dZ) (G : g_G D wf A s.heap σ1 H locs) (hr : meth.sig.returnType = some .int) (hlk : meth.locks = false) (hp : post r σ1) (hdg : decode cc pc = .ok (.ireturn, 1)) : W p l e R s m args below meth c H locs 0 0 (g_Ei D dI dZ wf A below args s post) (F0 m pc ls [.int r]) :=
  W.iret C.x C.b hr (fun t ht hW => ⟨⟨r, σ1, rfl, hp, by rw [ht]; exact G.1, va_K.moved hW.alike C.2, G.2.1⟩, G.2.2.F ht⟩) G.2.2.2.2 hdg hlk
theorem g_zret {post : Int32 → g_St → Prop} {r : Int32} (C : g_C own p s m args c cc nL D dI dZ) (G : g_G D wf A s.heap σ1 H locs) (hr : meth.sig.returnType = some .boolean) (hlk : meth.locks = false) (hn : narrow .boolean (.int r) = .int r) (hp : post r σ1) (hdg : decode cc pc = .ok (.ireturn, 1)) : W p l e R s m args below meth c H locs 0 0 (g_Ei D dI dZ wf A below args s post) (F0 m pc ls [.int r]) :=
  W.zret C.x C.b hr hn (fun t ht hW => ⟨⟨r, σ1, rfl, hp, by rw [ht]; exact G.1, va_K.moved hW.alike C.2, G.2.1⟩, G.2.2.F ht⟩) G.2.2.2.2 hdg hlk
theorem g_vret {post : g_St → Prop} (C : g_C own p s m args c cc nL D dI dZ) (G : g_G D wf A s.heap σ1 H locs) (hr : meth.sig.returnType = none) (hlk : meth.locks = false) (hp : post σ1) (hdg : decode cc pc = .ok (.return_, 1)) : W p l e R s m args below meth c H locs 0 0 (g_Ev D dI dZ wf A below args s post) (F0 m pc ls []) :=
  W.vret C.x C.b hr (fun t ht hW => ⟨⟨σ1, rfl, hp, by rw [ht]; exact G.1, va_K.moved hW.alike C.2, G.2.1⟩, G.2.2.F ht⟩) G.2.2.2.2 hdg hlk
theorem g_freeA {wf : g_St → va_W} (G : g_G D wf A H0 σ H locs) (hA : ∀ q, H0.size ≤ q → A q) : ∀ q, va_A (wf σ) H.size q → A q := by
  intro q h
  rcases h with ⟨k, e, h⟩ | h
  · exact G.2.1.2 k (q, e) h
  · exact hA q (Nat.le_trans G.2.2.1 h)
theorem g_calli {y : MethodName} {cy : ByteArray} {nY index k fr lo : Nat} {ty : FieldType} {Cn : String} {As st : List Value} {post : Int32 → g_St → Prop} (C : g_C own p s m args c cc nL D dI dZ) (G : g_G D wf A H0 σ H locs) (hA : ∀ q, H0.size ≤ q → A q) (hM : g_Mi l D dI dZ wf h0 y cy nY ty fr lo As σ post)
    (cw : CallW R s args own Cn index y cy nY (some ty) (ws_ y cy nY (some ty)) (g_rm fr lo) 0 0 k) (hk : As.length = k) (hrec : ∃ (ci : Nat) (q : vw_C) (fs : List Value), vwCl[ci]? = some q ∧ q.1 = Cn ∧ (wf σ)[0]? = some (h0, .inr (ci, fs))) (hls : ls.size = nL) (hroom : (rest.map fun v => v.category).sum ≤ 8) (hst : st = As.reverse ++ .ref h0 :: rest) (hdg : decode cc pc = .ok (.invokevirtual index, 3))
    (kk : ∀ (r : Int32) (σ1 : g_St) (H1 : Heap) (locs1 : List Loc), post r σ1 → g_G D wf A H0 σ1 H1 locs1 → W p l e R s m args below meth c H1 locs1 0 0 Q (F0 m (pc + 3) ls (.int r :: rest))) : W p l e R s m args below meth c H locs 0 0 Q (F0 m pc ls st) := by
  subst hst
  have hFc := g_freeA G hA
  obtain ⟨ci, q, fs, hc1, hc2, hc3⟩ := hrec
  subst hc2
  refine va_calli (va_runV (As := As) (rest := rest) C.1 (hM H.size) cw ⟨fun a U g mk q => by obtain ⟨q0, q1, qP, qK, qD⟩ := q; exact ⟨q0, q1, qP, va_K.moved (u := U) (U := U.calling g mk a) (Vm.Alike.refl U.vm) qK, qD⟩, va_recv C.2 G.1 (ci := ci) (q0 := 0) hc1 hc3, fun U hU hW => ⟨rfl, by rw [hU], by rw [hU]; exact G.1, va_K.moved hW.alike C.2, G.2.1.weaken (fun _ _ _ _ => trivial)⟩⟩ rfl hk hls rfl (lv_room hroom) hdg ⟨Nat.zero_le _, Nat.zero_le _⟩) G.2.2 (fun q _ h => hFc q h) hFc (fun r u t H1 locs1 ht hvm hw hB hz1 hk1 hS => ?_)
  obtain ⟨hP1, hK1, hD1⟩ := hB
  rw [ht] at hP1
  exact kk r u H1 locs1 hw ⟨hP1, hD1.weaken (fun k q _ h => hFc q.1 h), hS⟩
theorem g_callv {y : MethodName} {cy : ByteArray} {nY index k fr lo : Nat} {Cn : String} {As st : List Value} {post : g_St → Prop} (C : g_C own p s m args c cc nL D dI dZ) (G : g_G D wf A H0 σ H locs) (hA : ∀ q, H0.size ≤ q → A q) (hM : g_Mv l D dI dZ wf h0 y cy nY fr lo As σ post)
    (cw : CallW R s args own Cn index y cy nY none (ws_ y cy nY none) (g_rm fr lo) 0 0 k) (hk : As.length = k) (hrec : ∃ (ci : Nat) (q : vw_C) (fs : List Value), vwCl[ci]? = some q ∧ q.1 = Cn ∧ (wf σ)[0]? = some (h0, .inr (ci, fs))) (hls : ls.size = nL) (hroom : (rest.map fun v => v.category).sum ≤ 8) (hst : st = As.reverse ++ .ref h0 :: rest) (hdg : decode cc pc = .ok (.invokevirtual index, 3))
    (kk : ∀ (σ1 : g_St) (H1 : Heap) (locs1 : List Loc), post σ1 → g_G D wf A H0 σ1 H1 locs1 → W p l e R s m args below meth c H1 locs1 0 0 Q (F0 m (pc + 3) ls rest)) : W p l e R s m args below meth c H locs 0 0 Q (F0 m pc ls st) := by
  subst hst
  have hFc := g_freeA G hA
  obtain ⟨ci, q, fs, hc1, hc2, hc3⟩ := hrec
  subst hc2
  refine va_callv (va_runV (As := As) (rest := rest) C.1 (hM H.size) cw ⟨fun a U g mk q => by obtain ⟨q0, q1, qP, qK, qD⟩ := q; exact ⟨q0, q1, qP, va_K.moved (u := U) (U := U.calling g mk a) (Vm.Alike.refl U.vm) qK, qD⟩, va_recv C.2 G.1 (ci := ci) (q0 := 0) hc1 hc3, fun U hU hW => ⟨rfl, by rw [hU], by rw [hU]; exact G.1, va_K.moved hW.alike C.2, G.2.1.weaken (fun _ _ _ _ => trivial)⟩⟩ rfl hk hls rfl (lv_room hroom) hdg ⟨Nat.zero_le _, Nat.zero_le _⟩) G.2.2 (fun q _ h => hFc q h) hFc (fun u t H1 locs1 ht hvm hw hB hz1 hk1 hS => ?_)
  obtain ⟨hP1, hK1, hD1⟩ := hB
  rw [ht] at hP1
  exact kk u H1 locs1 hw ⟨hP1, hD1.weaken (fun k q _ h => hFc q.1 h), hS⟩
end G2
end
section
set_option maxRecDepth 100000
theorem cw11_badPair {R : Room} {s : State} {args : Array Value} (ht : ∀ w ∈ lw_all, w.before args s = true) (hf : 0 + 1 ≤ R.frames) (hl : 8 + (3 + 11) + 0 ≤ R.locals) : CallW R s args RX1 RX1 45 yX1_badPair cX1_badPair 3 (some .boolean) (ws_ yX1_badPair cX1_badPair 3 (some .boolean)) (g_rm 0 0) 0 0 2 := cwV 2 ht (lw_V q77 q79 qs0 q18 q80) rfl rfl rfl (by decide +kernel) ⟨hf, hl⟩
theorem cw11_startLabels {R : Room} {s : State} {args : Array Value} (ht : ∀ w ∈ lw_all, w.before args s = true) (hf : 1 + 1 ≤ R.frames) (hl : 8 + (4 + 11) + 25 ≤ R.locals) : CallW R s args RX1 RX1 81 yX1_startLabels cX1_startLabels 4 none (ws_ yX1_startLabels cX1_startLabels 4 none) (g_rm 1 25) 0 0 1 := cwV 1 ht (lw_V q93 q95 qs1 q18 q96) rfl rfl rfl (by decide +kernel) ⟨hf, hl⟩
theorem cw11_mergeLabels {R : Room} {s : State} {args : Array Value} (ht : ∀ w ∈ lw_all, w.before args s = true) (hf : 0 + 1 ≤ R.frames) (hl : 8 + (6 + 11) + 0 ≤ R.locals) : CallW R s args RX1 RX1 49 yX1_mergeLabels cX1_mergeLabels 6 none (ws_ yX1_mergeLabels cX1_mergeLabels 6 none) (g_rm 0 0) 0 0 2 := cwV 2 ht (lw_V q97 q99 qs2 q18 q100) rfl rfl rfl (by decide +kernel) ⟨hf, hl⟩
theorem cw11_sumWeights {R : Room} {s : State} {args : Array Value} (ht : ∀ w ∈ lw_all, w.before args s = true) (hf : 0 + 1 ≤ R.frames) (hl : 8 + (4 + 11) + 0 ≤ R.locals) : CallW R s args RX1 RX1 85 yX1_sumWeights cX1_sumWeights 4 none (ws_ yX1_sumWeights cX1_sumWeights 4 none) (g_rm 0 0) 0 0 1 := cwV 1 ht (lw_V q101 q103 qs3 q18 q104) rfl rfl rfl (by decide +kernel) ⟨hf, hl⟩
theorem cw11_leastOfGroups {R : Room} {s : State} {args : Array Value} (ht : ∀ w ∈ lw_all, w.before args s = true) (hf : 2 + 1 ≤ R.frames) (hl : 8 + (4 + 11) + 45 ≤ R.locals) : CallW R s args RX1 RX1 88 yX1_leastOfGroups cX1_leastOfGroups 4 (some .int) (ws_ yX1_leastOfGroups cX1_leastOfGroups 4 (some .int)) (g_rm 2 45) 0 0 0 := cwV 0 ht (lw_V q105 q107 qs4 q18 q108) rfl rfl rfl (by decide +kernel) ⟨hf, hl⟩
theorem cw11_phase {R : Room} {s : State} {args : Array Value} (ht : ∀ w ∈ lw_all, w.before args s = true) (hf : 1 + 1 ≤ R.frames) (hl : 8 + (4 + 11) + 22 ≤ R.locals) : CallW R s args RX1 RX1 67 yX1_phase cX1_phase 4 (some .int) (ws_ yX1_phase cX1_phase 4 (some .int)) (g_rm 1 22) 0 0 1 := cwV 1 ht (lw_V q110 q112 qs5 q18 q113) rfl rfl rfl (by decide +kernel) ⟨hf, hl⟩
theorem cw11_mostHanging {R : Room} {s : State} {args : Array Value} (ht : ∀ w ∈ lw_all, w.before args s = true) (hf : 0 + 1 ≤ R.frames) (hl : 8 + (3 + 11) + 0 ≤ R.locals) : CallW R s args RX1 RX1 62 yX1_mostHanging cX1_mostHanging 3 (some .int) (ws_ yX1_mostHanging cX1_mostHanging 3 (some .int)) (g_rm 0 0) 0 0 0 := cwV 0 ht (lw_V q114 q116 qs6 q18 q117) rfl rfl rfl (by decide +kernel) ⟨hf, hl⟩
theorem cw11_mergeLastTwo {R : Room} {s : State} {args : Array Value} (ht : ∀ w ∈ lw_all, w.before args s = true) (hf : 0 + 1 ≤ R.frames) (hl : 8 + (2 + 11) + 0 ≤ R.locals) : CallW R s args RX1 RX1 71 yX1_mergeLastTwo cX1_mergeLastTwo 2 none (ws_ yX1_mergeLastTwo cX1_mergeLastTwo 2 none) (g_rm 0 0) 0 0 0 := cwV 0 ht (lw_V q118 q120 qs7 q18 q121) rfl rfl rfl (by decide +kernel) ⟨hf, hl⟩
theorem cw11_least {R : Room} {s : State} {args : Array Value} (ht : ∀ w ∈ lw_all, w.before args s = true) (hf : 3 + 1 ≤ R.frames) (hl : 8 + (1 + 11) + 68 ≤ R.locals) : CallW R s args RX1 RX1 97 yX1_least cX1_least 1 (some .int) (ws_ yX1_least cX1_least 1 (some .int)) (g_rm 3 68) 0 0 0 := cwV 0 ht (lw_V q126 q90 q91 q18 q92) rfl rfl rfl (by decide +kernel) ⟨hf, hl⟩
theorem cw11_leastWith {R : Room} {s : State} {args : Array Value} (ht : ∀ w ∈ lw_all, w.before args s = true) (hf : 3 + 1 ≤ R.frames) (hl : 8 + (4 + 11) + 68 ≤ R.locals) : CallW R s args RX1 RX1 100 yX1_leastWith cX1_leastWith 4 (some .int) (ws_ yX1_leastWith cX1_leastWith 4 (some .int)) (g_rm 3 68) 0 0 2 := cwV 2 ht (lw_V q127 q129 qs8 q18 q130) rfl rfl rfl (by decide +kernel) ⟨hf, hl⟩
theorem cw11_mergeSet {R : Room} {s : State} {args : Array Value} (ht : ∀ w ∈ lw_all, w.before args s = true) (hf : 1 + 1 ≤ R.frames) (hl : 8 + (4 + 11) + 25 ≤ R.locals) : CallW R s args RX1 RX1 91 yX1_mergeSet cX1_mergeSet 4 none (ws_ yX1_mergeSet cX1_mergeSet 4 none) (g_rm 1 25) 0 0 1 := cwV 1 ht (lw_V q131 q133 qs9 q18 q134) rfl rfl rfl (by decide +kernel) ⟨hf, hl⟩
theorem cw11_leastBetween {R : Room} {s : State} {args : Array Value} (ht : ∀ w ∈ lw_all, w.before args s = true) (hf : 1 + 1 ≤ R.frames) (hl : 8 + (8 + 11) + 26 ≤ R.locals) : CallW R s args RX1 RX1 94 yX1_leastBetween cX1_leastBetween 8 (some .int) (ws_ yX1_leastBetween cX1_leastBetween 8 (some .int)) (g_rm 1 26) 0 0 2 := cwV 2 ht (lw_V q135 q137 qs10 q18 q138) rfl rfl rfl (by decide +kernel) ⟨hf, hl⟩
theorem cw11_findWay {R : Room} {s : State} {args : Array Value} (ht : ∀ w ∈ lw_all, w.before args s = true) (hf : 0 + 1 ≤ R.frames) (hl : 8 + (7 + 11) + 0 ≤ R.locals) : CallW R s args RX1 RX1 74 yX1_findWay cX1_findWay 7 (some .boolean) (ws_ yX1_findWay cX1_findWay 7 (some .boolean)) (g_rm 0 0) 0 0 2 := cwV 2 ht (lw_V q139 q141 qs11 q18 q142) rfl rfl rfl (by decide +kernel) ⟨hf, hl⟩
theorem cw11_sendAlong {R : Room} {s : State} {args : Array Value} (ht : ∀ w ∈ lw_all, w.before args s = true) (hf : 0 + 1 ≤ R.frames) (hl : 8 + (7 + 11) + 0 ≤ R.locals) : CallW R s args RX1 RX1 77 yX1_sendAlong cX1_sendAlong 7 (some .int) (ws_ yX1_sendAlong cX1_sendAlong 7 (some .int)) (g_rm 0 0) 0 0 2 := cwV 2 ht (lw_V q143 q145 qs12 q18 q146) rfl rfl rfl (by decide +kernel) ⟨hf, hl⟩
theorem cw22_badPair {R : Room} {s : State} {args : Array Value} (ht : ∀ w ∈ lw_all, w.before args s = true) (hf : 0 + 1 ≤ R.frames) (hl : 8 + (3 + 11) + 0 ≤ R.locals) : CallW R s args RX2 RX2 21 yX2_badPair cX2_badPair 3 (some .boolean) (ws_ yX2_badPair cX2_badPair 3 (some .boolean)) (g_rm 0 0) 0 0 2 := cwV 2 ht (lw_V q186 q188 qs13 q19 q189) rfl rfl rfl (by decide +kernel) ⟨hf, hl⟩
theorem cw22_leastOf {R : Room} {s : State} {args : Array Value} (ht : ∀ w ∈ lw_all, w.before args s = true) (hf : 2 + 1 ≤ R.frames) (hl : 8 + (7 + 11) + 50 ≤ R.locals) : CallW R s args RX2 RX2 35 yX2_leastOf cX2_leastOf 7 (some .int) (ws_ yX2_leastOf cX2_leastOf 7 (some .int)) (g_rm 2 50) 0 0 3 := cwV 3 ht (lw_V q203 q205 qs14 q19 q206) rfl rfl rfl (by decide +kernel) ⟨hf, hl⟩
theorem cw22_separates {R : Room} {s : State} {args : Array Value} (ht : ∀ w ∈ lw_all, w.before args s = true) (hf : 0 + 1 ≤ R.frames) (hl : 8 + (4 + 11) + 0 ≤ R.locals) : CallW R s args RX2 RX2 27 yX2_separates cX2_separates 4 (some .boolean) (ws_ yX2_separates cX2_separates 4 (some .boolean)) (g_rm 0 0) 0 0 3 := cwV 3 ht (lw_V q207 q209 qs15 q19 q210) rfl rfl rfl (by decide +kernel) ⟨hf, hl⟩
theorem cw22_allowed {R : Room} {s : State} {args : Array Value} (ht : ∀ w ∈ lw_all, w.before args s = true) (hf : 1 + 1 ≤ R.frames) (hl : 8 + (8 + 11) + 23 ≤ R.locals) : CallW R s args RX2 RX2 31 yX2_allowed cX2_allowed 8 (some .int) (ws_ yX2_allowed cX2_allowed 8 (some .int)) (g_rm 1 23) 0 0 2 := cwV 2 ht (lw_V q211 q213 qs16 q19 q214) rfl rfl rfl (by decide +kernel) ⟨hf, hl⟩
theorem cw22_least {R : Room} {s : State} {args : Array Value} (ht : ∀ w ∈ lw_all, w.before args s = true) (hf : 3 + 1 ≤ R.frames) (hl : 8 + (1 + 11) + 76 ≤ R.locals) : CallW R s args RX2 RX2 39 yX2_least cX2_least 1 (some .int) (ws_ yX2_least cX2_least 1 (some .int)) (g_rm 3 76) 0 0 0 := cwV 0 ht (lw_V q219 q200 q201 q19 q202) rfl rfl rfl (by decide +kernel) ⟨hf, hl⟩
theorem cw01_weight {R : Room} {s : State} {args : Array Value} (ht : ∀ w ∈ lw_all, w.before args s = true) (hf : 1 + 1 ≤ R.frames) (hl : 8 + (5 + 11) + 22 ≤ R.locals) : CallW R s args RX0 RX1 21 yX1_weight cX1_weight 5 (some .int) (ws_ yX1_weight cX1_weight 5 (some .int)) (g_rm 1 22) 0 0 3 := cwV 3 ht (lw_V q73 q74 q75 q18 q76) rfl rfl rfl (by decide +kernel) ⟨hf, hl⟩
theorem cw01_change {R : Room} {s : State} {args : Array Value} (ht : ∀ w ∈ lw_all, w.before args s = true) (hf : 1 + 1 ≤ R.frames) (hl : 8 + (6 + 11) + 22 ≤ R.locals) : CallW R s args RX0 RX1 26 yX1_change cX1_change 6 (some .int) (ws_ yX1_change cX1_change 6 (some .int)) (g_rm 1 22) 0 0 3 := cwV 3 ht (lw_V q81 q82 q83 q18 q84) rfl rfl rfl (by decide +kernel) ⟨hf, hl⟩
theorem cw01_glue {R : Room} {s : State} {args : Array Value} (ht : ∀ w ∈ lw_all, w.before args s = true) (hf : 1 + 1 ≤ R.frames) (hl : 8 + (5 + 11) + 22 ≤ R.locals) : CallW R s args RX0 RX1 30 yX1_glue cX1_glue 5 (some .int) (ws_ yX1_glue cX1_glue 5 (some .int)) (g_rm 1 22) 0 0 3 := cwV 3 ht (lw_V q85 q86 q87 q18 q88) rfl rfl rfl (by decide +kernel) ⟨hf, hl⟩
theorem cw01_least {R : Room} {s : State} {args : Array Value} (ht : ∀ w ∈ lw_all, w.before args s = true) (hf : 3 + 1 ≤ R.frames) (hl : 8 + (1 + 11) + 68 ≤ R.locals) : CallW R s args RX0 RX1 35 yX1_least cX1_least 1 (some .int) (ws_ yX1_least cX1_least 1 (some .int)) (g_rm 3 68) 0 0 0 := cwV 0 ht (lw_V q89 q90 q91 q18 q92) rfl rfl rfl (by decide +kernel) ⟨hf, hl⟩
theorem cw01_smallest {R : Room} {s : State} {args : Array Value} (ht : ∀ w ∈ lw_all, w.before args s = true) (hf : 4 + 1 ≤ R.frames) (hl : 8 + (6 + 11) + 91 ≤ R.locals) : CallW R s args RX0 RX1 40 yX1_smallest cX1_smallest 6 (some .int) (ws_ yX1_smallest cX1_smallest 6 (some .int)) (g_rm 4 91) 0 0 0 := cwV 0 ht (lw_V q122 q123 q124 q18 q125) rfl rfl rfl (by decide +kernel) ⟨hf, hl⟩
theorem cw01_between {R : Room} {s : State} {args : Array Value} (ht : ∀ w ∈ lw_all, w.before args s = true) (hf : 2 + 1 ≤ R.frames) (hl : 8 + (3 + 11) + 53 ≤ R.locals) : CallW R s args RX0 RX1 44 yX1_between cX1_between 3 (some .int) (ws_ yX1_between cX1_between 3 (some .int)) (g_rm 2 53) 0 0 2 := cwV 2 ht (lw_V q147 q148 q149 q18 q150) rfl rfl rfl (by decide +kernel) ⟨hf, hl⟩
theorem cw01_value {R : Room} {s : State} {args : Array Value} (ht : ∀ w ∈ lw_all, w.before args s = true) (hf : 0 + 1 ≤ R.frames) (hl : 8 + (5 + 11) + 0 ≤ R.locals) : CallW R s args RX0 RX1 49 yX1_value cX1_value 5 (some .int) (ws_ yX1_value cX1_value 5 (some .int)) (g_rm 0 0) 0 0 1 := cwV 1 ht (lw_V q151 q152 q153 q18 q154) rfl rfl rfl (by decide +kernel) ⟨hf, hl⟩
theorem cw01_separated {R : Room} {s : State} {args : Array Value} (ht : ∀ w ∈ lw_all, w.before args s = true) (hf : 4 + 1 ≤ R.frames) (hl : 8 + (6 + 11) + 88 ≤ R.locals) : CallW R s args RX0 RX1 54 yX1_separated cX1_separated 6 (some .int) (ws_ yX1_separated cX1_separated 6 (some .int)) (g_rm 4 88) 0 0 0 := cwV 0 ht (lw_V q155 q156 q157 q18 q158) rfl rfl rfl (by decide +kernel) ⟨hf, hl⟩
theorem cw01_without {R : Room} {s : State} {args : Array Value} (ht : ∀ w ∈ lw_all, w.before args s = true) (hf : 3 + 1 ≤ R.frames) (hl : 8 + (2 + 11) + 68 ≤ R.locals) : CallW R s args RX0 RX1 58 yX1_without cX1_without 2 (some .int) (ws_ yX1_without cX1_without 2 (some .int)) (g_rm 3 68) 0 0 1 := cwV 1 ht (lw_V q159 q160 q161 q18 q162) rfl rfl rfl (by decide +kernel) ⟨hf, hl⟩
theorem cw02_weight {R : Room} {s : State} {args : Array Value} (ht : ∀ w ∈ lw_all, w.before args s = true) (hf : 1 + 1 ≤ R.frames) (hl : 8 + (5 + 11) + 22 ≤ R.locals) : CallW R s args RX0 RX2 25 yX2_weight cX2_weight 5 (some .int) (ws_ yX2_weight cX2_weight 5 (some .int)) (g_rm 1 22) 0 0 3 := cwV 3 ht (lw_V q182 q183 q184 q19 q185) rfl rfl rfl (by decide +kernel) ⟨hf, hl⟩
theorem cw02_change {R : Room} {s : State} {args : Array Value} (ht : ∀ w ∈ lw_all, w.before args s = true) (hf : 1 + 1 ≤ R.frames) (hl : 8 + (7 + 11) + 22 ≤ R.locals) : CallW R s args RX0 RX2 29 yX2_change cX2_change 7 (some .int) (ws_ yX2_change cX2_change 7 (some .int)) (g_rm 1 22) 0 0 3 := cwV 3 ht (lw_V q190 q191 q192 q19 q193) rfl rfl rfl (by decide +kernel) ⟨hf, hl⟩
theorem cw02_glue {R : Room} {s : State} {args : Array Value} (ht : ∀ w ∈ lw_all, w.before args s = true) (hf : 1 + 1 ≤ R.frames) (hl : 8 + (5 + 11) + 22 ≤ R.locals) : CallW R s args RX0 RX2 34 yX2_glue cX2_glue 5 (some .int) (ws_ yX2_glue cX2_glue 5 (some .int)) (g_rm 1 22) 0 0 3 := cwV 3 ht (lw_V q195 q196 q197 q19 q198) rfl rfl rfl (by decide +kernel) ⟨hf, hl⟩
theorem cw02_least {R : Room} {s : State} {args : Array Value} (ht : ∀ w ∈ lw_all, w.before args s = true) (hf : 3 + 1 ≤ R.frames) (hl : 8 + (1 + 11) + 76 ≤ R.locals) : CallW R s args RX0 RX2 39 yX2_least cX2_least 1 (some .int) (ws_ yX2_least cX2_least 1 (some .int)) (g_rm 3 76) 0 0 0 := cwV 0 ht (lw_V q199 q200 q201 q19 q202) rfl rfl rfl (by decide +kernel) ⟨hf, hl⟩
theorem cw02_smallest {R : Room} {s : State} {args : Array Value} (ht : ∀ w ∈ lw_all, w.before args s = true) (hf : 4 + 1 ≤ R.frames) (hl : 8 + (4 + 11) + 96 ≤ R.locals) : CallW R s args RX0 RX2 43 yX2_smallest cX2_smallest 4 (some .int) (ws_ yX2_smallest cX2_smallest 4 (some .int)) (g_rm 4 96) 0 0 0 := cwV 0 ht (lw_V q215 q216 q217 q19 q218) rfl rfl rfl (by decide +kernel) ⟨hf, hl⟩
theorem cw02_between {R : Room} {s : State} {args : Array Value} (ht : ∀ w ∈ lw_all, w.before args s = true) (hf : 3 + 1 ≤ R.frames) (hl : 8 + (3 + 11) + 76 ≤ R.locals) : CallW R s args RX0 RX2 48 yX2_between cX2_between 3 (some .int) (ws_ yX2_between cX2_between 3 (some .int)) (g_rm 3 76) 0 0 2 := cwV 2 ht (lw_V q220 q221 q222 q19 q223) rfl rfl rfl (by decide +kernel) ⟨hf, hl⟩
theorem cw02_value {R : Room} {s : State} {args : Array Value} (ht : ∀ w ∈ lw_all, w.before args s = true) (hf : 1 + 1 ≤ R.frames) (hl : 8 + (5 + 11) + 23 ≤ R.locals) : CallW R s args RX0 RX2 53 yX2_value cX2_value 5 (some .int) (ws_ yX2_value cX2_value 5 (some .int)) (g_rm 1 23) 0 0 1 := cwV 1 ht (lw_V q224 q225 q226 q19 q227) rfl rfl rfl (by decide +kernel) ⟨hf, hl⟩
theorem cw02_separated {R : Room} {s : State} {args : Array Value} (ht : ∀ w ∈ lw_all, w.before args s = true) (hf : 4 + 1 ≤ R.frames) (hl : 8 + (5 + 11) + 96 ≤ R.locals) : CallW R s args RX0 RX2 57 yX2_separated cX2_separated 5 (some .int) (ws_ yX2_separated cX2_separated 5 (some .int)) (g_rm 4 96) 0 0 0 := cwV 0 ht (lw_V q228 q229 q230 q19 q231) rfl rfl rfl (by decide +kernel) ⟨hf, hl⟩
theorem cw02_without {R : Room} {s : State} {args : Array Value} (ht : ∀ w ∈ lw_all, w.before args s = true) (hf : 3 + 1 ≤ R.frames) (hl : 8 + (2 + 11) + 76 ≤ R.locals) : CallW R s args RX0 RX2 61 yX2_without cX2_without 2 (some .int) (ws_ yX2_without cX2_without 2 (some .int)) (g_rm 3 76) 0 0 1 := cwV 1 ht (lw_V q232 q233 q234 q19 q235) rfl rfl rfl (by decide +kernel) ⟨hf, hl⟩
end
section
/-! what the methods compute, in plain words: pictures in, pictures out; every 'if' has the branch's own condition -/
set_option maxRecDepth 100000
def nx (x : Int32) : Nat := x.toNatClampNeg
theorem nx_nI {j : Nat} (h : j < 2 ^ 31) : nx (nI j) = j := nI_clamp h
def g_in (N : Nat) (x : Int32) : Prop := ∃ j : Nat, j < N ∧ x = nI j
theorem g_in.e {N : Nat} {x : Int32} (h : g_in N x) (hN : N ≤ 2 ^ 31 := by decide) : x = nI (nx x) := by
  obtain ⟨j, h1, rfl⟩ := h
  rw [nx_nI (Nat.lt_of_lt_of_le h1 hN)]
theorem g_in.lt {N : Nat} {x : Int32} (h : g_in N x) (hN : N ≤ 2 ^ 31 := by decide) : nx x < N := by
  obtain ⟨j, h1, rfl⟩ := h
  rw [nx_nI (Nat.lt_of_lt_of_le h1 hN)]; exact h1
theorem g_in.mk {N j : Nat} (h : j < N) : g_in N (nI j) := ⟨j, h, rfl⟩
theorem g_in.mono {N M : Nat} {x : Int32} (h : g_in N x) (hM : N ≤ M) : g_in M x := by
  obtain ⟨j, h1, h2⟩ := h
  exact ⟨j, Nat.lt_of_lt_of_le h1 hM, h2⟩
theorem g_ixx {x y : Int32} {a b : Nat} (hx : x = nI a) (hy : y = nI b) : x * 9 + y = nI (a * 9 + b) := by
  subst hx; subst hy; exact g_ix a b
def lp {α : Type} (f : Nat → α → α) : Nat → Nat → α → α
  | 0, _, s => s
  | c + 1, i, s => lp f c (i + 1) (f i s)
theorem lp_s {α : Type} (f : Nat → α → α) (c i : Nat) (s : α) : lp f (c + 1) i s = lp f c (i + 1) (f i s) := rfl
theorem lp_z {α : Type} (f : Nat → α → α) (i : Nat) (s : α) : lp f 0 i s = s := rfl
theorem lp_ind {α : Type} {f : Nat → α → α} (P : Nat → α → Prop) : ∀ (c i : Nat) (s : α), P i s → (∀ j s, i ≤ j → j < i + c → P j s → P (j + 1) (f j s)) → P (i + c) (lp f c i s) := by
  intro c
  induction c with
  | zero => intro i s h _; exact h
  | succ c ih =>
    intro i s h hs
    rw [lp_s, show i + (c + 1) = (i + 1) + c by omega]
    exact ih (i + 1) (f i s) (hs i s (Nat.le_refl _) (by omega) h) (fun j s h1 h2 h3 => hs j s (by omega) (by omega) h3)
-- badPair
def p_bp (n : Nat) (u v : Int32) : Int32 := if u < 0 then 1 else if nI n ≤ u then 1 else if v < 0 then 1 else if nI n ≤ v then 1 else if ¬ u = v then 0 else 1
-- mergeLabels
def p_mlf (sm lg : Int32) (v : Nat) (σ : g_St) : g_St := if ¬ σ 3 v = lg then σ else g_up σ 3 v sm
def p_ml (n : Nat) (a b : Int32) (σ : g_St) : g_St := lp (p_mlf (if b ≤ a then b else a) (if b ≤ a then a else b)) n 0 σ
-- startLabels
def p_slf (v : Nat) (σ : g_St) : g_St := g_up σ 3 v (nI v)
def p_slv (n : Nat) (skip : Int32) (u v : Nat) (σ : g_St) : g_St := if nI u = skip then σ else if nI v = skip then σ else if σ 2 (u * 9 + v) = 0 then σ else p_ml n (σ 3 u) (σ 3 v) σ
def p_slu (n : Nat) (skip : Int32) (u : Nat) (σ : g_St) : g_St := lp (p_slv n skip u) (n - (u + 1)) (u + 1) σ
def p_sl (n : Nat) (skip : Int32) (σ : g_St) : g_St := lp (p_slu n skip) n 0 (lp p_slf n 0 σ)
-- mergeSet
def p_msf (n : Nat) (set : Int32) (v : Nat) (q : Int32 × g_St) : Int32 × g_St := if ¬ (set >>> (nI v &&& 31)) &&& 1 = 1 then q else if 0 ≤ q.1 then (q.1, p_ml n (q.2 3 (nx q.1)) (q.2 3 v) q.2) else (nI v, q.2)
def p_ms (n : Nat) (set : Int32) (σ : g_St) : g_St := (lp (p_msf n set) n 0 (-1, σ)).2
-- sumWeights
def p_swz (i : Nat) (σ : g_St) : g_St := g_up σ 4 i 0
def p_swl (skip : Int32) (u : Nat) (σ : g_St) : g_St := g_up σ 6 u (if nI u = skip then 0 else if ¬ σ 3 u = nI u then 0 else 1)
def p_swg (u : Nat) (σ : g_St) : g_St := if σ 6 u = 0 then σ else g_up σ 5 0 (σ 5 0 + 1)
def p_swv (skip : Int32) (u v : Nat) (σ : g_St) : g_St := if nI u = skip then σ else if nI v = skip then σ else if σ 3 u = σ 3 v then σ else g_up σ 4 (nx (σ 3 u) * 9 + nx (σ 3 v)) (σ 4 (nx (σ 3 u) * 9 + nx (σ 3 v)) + σ 1 (u * 9 + v))
def p_swu (n : Nat) (skip : Int32) (u : Nat) (σ : g_St) : g_St := lp (p_swv skip u) n 0 (p_swg u (p_swl skip u σ))
def p_sw (n : Nat) (skip : Int32) (σ : g_St) : g_St := lp (p_swu n skip) n 0 (g_up (lp p_swz 81 0 σ) 5 0 0)
-- mostHanging
def p_mhf (σ : g_St) (v : Nat) (b : Int32) : Int32 := if σ 6 v = 0 then b else if ¬ σ 7 v = 0 then b else if b < 0 then nI v else if σ 8 v ≤ σ 8 (nx b) then b else nI v
def p_mh (n : Nat) (σ : g_St) : Int32 := if 0 ≤ lp (p_mhf σ) n 0 (-1) then lp (p_mhf σ) n 0 (-1) else 0
-- phase
def p_phz (v : Nat) (σ : g_St) : g_St := g_up (g_up σ 7 v 0) 8 v 0
def p_phv (v : Nat) (σ : g_St) : g_St := if σ 6 v = 0 then σ else if ¬ σ 7 v = 0 then σ else g_up σ 8 v (σ 8 v + σ 4 (nx (σ 9 0) * 9 + v))
def p_phm (n : Nat) (σ : g_St) : g_St := g_up (g_up (g_up σ 10 0 (σ 9 0)) 9 0 (p_mh n (g_up σ 10 0 (σ 9 0)))) 7 (nx (p_mh n (g_up σ 10 0 (σ 9 0)))) 1
def p_phi (n : Nat) (_ : Nat) (σ : g_St) : g_St := lp p_phv n 0 (p_phm n σ)
def p_ph (n cnt : Nat) (σ : g_St) : g_St := lp (p_phi n) cnt 0 (g_up (lp p_phz n 0 σ) 9 0 (-1))
-- mergeLastTwo
def p_mt1 (v : Nat) (σ : g_St) : g_St := g_up σ 4 (nx (σ 10 0) * 9 + v) (σ 4 (nx (σ 10 0) * 9 + v) + σ 4 (nx (σ 9 0) * 9 + v))
def p_mt2 (v : Nat) (σ : g_St) : g_St := g_up σ 4 (v * 9 + nx (σ 10 0)) (σ 4 (nx (σ 10 0) * 9 + v))
def p_mtf (v : Nat) (σ : g_St) : g_St := p_mt2 v (p_mt1 v σ)
def p_mte (σ : g_St) : g_St := g_up (g_up σ 4 (nx (σ 10 0) * 9 + nx (σ 10 0)) 0) 6 (nx (σ 9 0)) 0
def p_mt (n : Nat) (σ : g_St) : g_St := p_mte (lp p_mtf n 0 σ)
-- leastOfGroups
def p_lgs (n cnt : Nat) (q : Int32 × g_St) : Int32 × g_St := (if q.1 ≤ (p_ph n cnt q.2) 8 (nx ((p_ph n cnt q.2) 9 0)) then q.1 else (p_ph n cnt q.2) 8 (nx ((p_ph n cnt q.2) 9 0)), p_mt n (p_ph n cnt q.2))
def p_lgr (n : Nat) : Nat → Int32 × g_St → Int32 × g_St
  | 0, q => q
  | k + 1, q => p_lgr n k (p_lgs n (k + 2) q)
def p_lg (n : Nat) (σ : g_St) : Int32 × g_St := if 2 ≤ σ 5 0 then p_lgr n (nx (σ 5 0) - 1) (1000000, σ) else (-3, σ)
-- findWay
def p_fwz (v : Nat) (σ : g_St) : g_St := g_up σ 12 v (-1)
def p_fwv (u : Int32) (v : Nat) (q : Nat × g_St) : Nat × g_St := if 0 ≤ q.2 12 v then q else if q.2 11 (nx u * 9 + v) ≤ 0 then q else (q.1 + 1, g_up (g_up q.2 12 v u) 13 q.1 (nI v))
def p_fwo (n : Nat) (i : Nat) (q : Nat × g_St) : Nat × g_St := lp (p_fwv (q.2 13 i)) n 0 q
def p_fwl (n : Nat) : Nat → Nat → Nat × g_St → Nat × g_St
  | 0, _, q => q
  | k + 1, i, q => if q.1 ≤ i then q else p_fwl n k (i + 1) (p_fwo n i q)
def p_fw0 (n : Nat) (s : Int32) (σ : g_St) : g_St := g_up (g_up (lp p_fwz n 0 σ) 12 (nx s) s) 13 0 s
def p_fws (n : Nat) (s : Int32) (σ : g_St) : g_St := (p_fwl n 9 0 (1, p_fw0 n s σ)).2
def p_fw (n : Nat) (s t : Int32) (σ : g_St) : Int32 × g_St := (if p_fws n s σ 12 (nx t) < 0 then 0 else 1, p_fws n s σ)
-- sendAlong
def p_sa1 (σ : g_St) (s : Int32) : Nat → Int32 × Int32 → Int32
  | 0, q => q.1
  | k + 1, q => if q.2 = s then q.1 else p_sa1 σ s k (if q.1 ≤ σ 11 (nx (σ 12 (nx q.2)) * 9 + nx q.2) then q.1 else σ 11 (nx (σ 12 (nx q.2)) * 9 + nx q.2), σ 12 (nx q.2))
def p_sa2u (am : Int32) (v : Int32) (σ : g_St) : g_St := g_up σ 11 (nx (σ 12 (nx v)) * 9 + nx v) (σ 11 (nx (σ 12 (nx v)) * 9 + nx v) - am)
def p_sa2v (am : Int32) (v : Int32) (σ : g_St) : g_St := g_up σ 11 (nx v * 9 + nx (σ 12 (nx v))) (σ 11 (nx v * 9 + nx (σ 12 (nx v))) + am)
def p_sa2 (am s : Int32) : Nat → Int32 → g_St → g_St
  | 0, _, σ => σ
  | k + 1, v, σ => if v = s then σ else p_sa2 am s k (σ 12 (nx v)) (p_sa2v am v (p_sa2u am v σ))
def p_saa (s t : Int32) (σ : g_St) : Int32 := p_sa1 σ s 9 (1000000, t)
def p_sa (s t : Int32) (σ : g_St) : Int32 × g_St := (p_saa s t σ, p_sa2 (p_saa s t σ) s 9 t σ)
-- leastBetween
def p_lbz (i : Nat) (σ : g_St) : g_St := g_up σ 11 i (σ 4 i)
def p_lbl (n : Nat) (s t : Int32) : Nat → Int32 × Int32 × g_St → Int32 × g_St
  | 0, q => (q.1, q.2.2)
  | k + 1, q => if q.2.1 = 0 then (q.1, q.2.2) else p_lbl n s t k (q.1 + (p_sa s t q.2.2).1, p_fw n s t (p_sa s t q.2.2).2)
def p_lb (n : Nat) (u v : Nat) (σ : g_St) : Int32 × g_St := if ¬ σ 3 u = σ 3 v then p_lbl n (σ 3 u) (σ 3 v) 400 (0, p_fw n (σ 3 u) (σ 3 v) (lp p_lbz 81 0 σ)) else (-3, σ)
-- questions
def p_prep (n : Nat) (skip : Int32) (σ : g_St) : g_St := p_sw n skip (p_sl n skip σ)
def p_least (n : Nat) (σ : g_St) : Int32 × g_St := p_lg n (p_prep n (-1) σ)
def p_lwv (far : Int32) : Nat → Nat → Nat
  | 0, v => v
  | k + 1, v => if ¬ (far >>> (nI v &&& 31)) &&& 1 = 0 then v else p_lwv far k (v + 1)
def p_lwp (n : Nat) (near far : Int32) (σ : g_St) : g_St := p_sw n (-1) (p_ms n far (p_ms n near (p_sl n (-1) σ)))
def p_lw (n : Nat) (near far : Int32) (σ : g_St) : Int32 × g_St := if ¬ far = 0 then p_lb n 0 (p_lwv far 8 0) (p_lwp n near far σ) else p_lg n (p_lwp n near far σ)
def p_smf (n : Nat) (value : Int32) (v : Nat) (q : Int32 × Int32 × g_St) : Int32 × Int32 × g_St := if ¬ (p_lw n (q.1 ||| (1 <<< (nI v &&& 31))) q.2.1 q.2.2).1 = value then (q.1, q.2.1 ||| (1 <<< (nI v &&& 31)), (p_lw n (q.1 ||| (1 <<< (nI v &&& 31))) q.2.1 q.2.2).2) else (q.1 ||| (1 <<< (nI v &&& 31)), q.2.1, (p_lw n (q.1 ||| (1 <<< (nI v &&& 31))) q.2.1 q.2.2).2)
def p_smr (n : Nat) (value : Int32) : Nat → Int32 × Int32 × g_St → Int32 × Int32 × g_St
  | 0, q => q
  | k + 1, q => p_smr n value k (p_smf n value (k + 1) q)
def p_sm (n : Nat) (σ : g_St) : Int32 × g_St := if ¬ (p_least n σ).1 = -3 then ((p_smr n (p_least n σ).1 (n - 1) (1, 0, (p_least n σ).2)).2.1, (p_smr n (p_least n σ).1 (n - 1) (1, 0, (p_least n σ).2)).2.2) else (-3, (p_least n σ).2)
def p_vav (σ : g_St) (mask : Int32) (u v : Nat) (x : Int32) : Int32 := if ¬ (mask >>> (nI u &&& 31)) &&& 1 = 1 then x else if ¬ (mask >>> (nI v &&& 31)) &&& 1 = 0 then x else x + σ 1 (u * 9 + v)
def p_vau (n : Nat) (σ : g_St) (mask : Int32) (u : Nat) (x : Int32) : Int32 := lp (p_vav σ mask u) n 0 x
def p_va (n : Nat) (mask : Int32) (σ : g_St) : Int32 := lp (p_vau n σ mask) n 0 0
def p_sev (n : Nat) (value : Int32) (u v : Nat) (q : Int32 × g_St) : Int32 × g_St := (if ¬ (p_lb n u v q.2).1 = value then q.1 else q.1 + 1, (p_lb n u v q.2).2)
def p_seu (n : Nat) (value : Int32) (u : Nat) (q : Int32 × g_St) : Int32 × g_St := lp (p_sev n value u) (n - (u + 1)) (u + 1) q
def p_se (n : Nat) (σ : g_St) : Int32 × g_St := if ¬ (p_least n σ).1 = -3 then lp (p_seu n (p_least n σ).1) n 0 (0, p_prep n (-1) (p_least n σ).2) else (0, (p_least n σ).2)
def p_bt (n : Nat) (u v : Int32) (σ : g_St) : Int32 × g_St := if p_bp n u v = 0 then p_lb n (nx u) (nx v) (p_prep n (-1) σ) else (-1, σ)
def p_wo (n : Nat) (v : Int32) (σ : g_St) : Int32 × g_St := if v < 0 then (-1, σ) else if v < nI n then p_lg n (p_prep n v σ) else (-1, σ)
def p_wt (n : Nat) (u v x : Int32) (σ : g_St) : Int32 × g_St := if p_bp n u v = 0 then (if x < 0 then (-2, σ) else if x ≤ 50 then (σ 1 (nx u * 9 + nx v), g_up (g_up σ 1 (nx u * 9 + nx v) x) 1 (nx v * 9 + nx u) x) else (-2, σ)) else (-1, σ)
def p_chv (old more : Int32) : Int32 := if more ≤ 0 then (if 0 ≤ more then old else if -old ≤ more then old + more else 0) else if more ≤ 50 - old then (if 0 ≤ more then old + more else if -old ≤ more then old + more else 0) else (if 0 ≤ more then 50 else if -old ≤ more then old + more else 0)
def p_ch (n : Nat) (u v x : Int32) (σ : g_St) : Int32 × g_St := if p_bp n u v = 0 then (p_chv (σ 1 (nx u * 9 + nx v)) x, g_up (g_up σ 1 (nx u * 9 + nx v) (p_chv (σ 1 (nx u * 9 + nx v)) x)) 1 (nx v * 9 + nx u) (p_chv (σ 1 (nx u * 9 + nx v)) x)) else (-1, σ)
def p_gl (n : Nat) (u v x : Int32) (σ : g_St) : Int32 × g_St := if p_bp n u v = 0 then (if σ 2 (nx u * 9 + nx v) = 0 then 0 else 1, g_up (g_up σ 2 (nx u * 9 + nx v) x) 2 (nx v * 9 + nx u) x) else (-1, σ)
end
section
set_option maxRecDepth 100000
section W1
variable {p : Program} {l : Launch} {e : Env} {R : Room} {s : State} {m : MethodId} {args : Array Value} {below : List Frame} {meth : Method} {c : Code} {Q : State → Prop} {D : va_G} {dI dZ : ClassId} {A : Nat → Prop} {H0 : Heap} {h0 : Nat} {ad : Nat → Nat} {n : Nat}
set_option maxHeartbeats 2000000 in
theorem m1_badPair (l : Launch) (D : va_G) (dI dZ : ClassId) (h0 : Nat) (ad : Nat → Nat) (n : Nat) (hn : n ≤ 9) (σ : g_St) (u v : Int32) : g_Mi l D dI dZ (g1_w dI dZ h0 ad n) h0 yX1_badPair cX1_badPair 3 .boolean 0 0 [.int u, .int v] σ (fun r τ => r = p_bp n u v ∧ τ = σ) := by
  refine g_starti (own := RX1) (by decide +kernel) rfl (Nat.le_of_ble_eq_true rfl) ?_
  intro p e s m below meth c A ls hr hlk hA C G hl
  replace hl : lv_has ls 3 [(0, .ref h0), (1, .int u), (2, .int v)] := hl
  refine lv_iload_n C.x C.b dX1_badPair_0 rfl (lv_at hl 1 rfl) ?_
  refine lv_if_lt (tgt := 29) C.x C.b dX1_badPair_1 (by decide) (fun c1 => ?_) (fun c1 => ?_)
  · refine lv_iconst (v := 1) C.x C.b dX1_badPair_29 (by decide) ?_
    refine lv_goto (tgt := 34) C.x C.b dX1_badPair_30 (by decide) ?_
    exact g_zret C G hr hlk rfl ⟨by unfold p_bp; rw [if_pos c1], rfl⟩ dX1_badPair_34
  · refine lv_iload_n C.x C.b dX1_badPair_4 rfl (lv_at hl 1 rfl) ?_
    refine g1_f0 C G (lv_at hl 0 rfl) dX1_badPair_5 dX1_badPair_6 ?_
    refine lv_icmp_ge (tgt := 29) C.x C.b dX1_badPair_9 (by decide) (fun c9 => ?_) (fun c9 => ?_)
    · refine lv_iconst (v := 1) C.x C.b dX1_badPair_29 (by decide) ?_
      refine lv_goto (tgt := 34) C.x C.b dX1_badPair_30 (by decide) ?_
      exact g_zret C G hr hlk rfl ⟨by unfold p_bp; rw [if_neg c1, if_pos c9], rfl⟩ dX1_badPair_34
    · refine lv_iload_n C.x C.b dX1_badPair_12 rfl (lv_at hl 2 rfl) ?_
      refine lv_if_lt (tgt := 29) C.x C.b dX1_badPair_13 (by decide) (fun c13 => ?_) (fun c13 => ?_)
      · refine lv_iconst (v := 1) C.x C.b dX1_badPair_29 (by decide) ?_
        refine lv_goto (tgt := 34) C.x C.b dX1_badPair_30 (by decide) ?_
        exact g_zret C G hr hlk rfl ⟨by unfold p_bp; rw [if_neg c1, if_neg c9, if_pos c13], rfl⟩ dX1_badPair_34
      · refine lv_iload_n C.x C.b dX1_badPair_16 rfl (lv_at hl 2 rfl) ?_
        refine g1_f0 C G (lv_at hl 0 rfl) dX1_badPair_17 dX1_badPair_18 ?_
        refine lv_icmp_ge (tgt := 29) C.x C.b dX1_badPair_21 (by decide) (fun c21 => ?_) (fun c21 => ?_)
        · refine lv_iconst (v := 1) C.x C.b dX1_badPair_29 (by decide) ?_
          refine lv_goto (tgt := 34) C.x C.b dX1_badPair_30 (by decide) ?_
          exact g_zret C G hr hlk rfl ⟨by unfold p_bp; rw [if_neg c1, if_neg c9, if_neg c13, if_pos c21], rfl⟩ dX1_badPair_34
        · refine lv_iload_n C.x C.b dX1_badPair_24 rfl (lv_at hl 1 rfl) ?_
          refine lv_iload_n C.x C.b dX1_badPair_25 rfl (lv_at hl 2 rfl) ?_
          refine lv_icmp_ne (tgt := 33) C.x C.b dX1_badPair_26 (by decide) (fun c26 => ?_) (fun c26 => ?_)
          · refine lv_iconst (v := 0) C.x C.b dX1_badPair_33 (by decide) ?_
            exact g_zret C G hr hlk rfl ⟨by unfold p_bp; rw [if_neg c1, if_neg c9, if_neg c13, if_neg c21, if_pos c26], rfl⟩ dX1_badPair_34
          · refine lv_iconst (v := 1) C.x C.b dX1_badPair_29 (by decide) ?_
            refine lv_goto (tgt := 34) C.x C.b dX1_badPair_30 (by decide) ?_
            exact g_zret C G hr hlk rfl ⟨by unfold p_bp; rw [if_neg c1, if_neg c9, if_neg c13, if_neg c21, if_neg (not_not_intro c26)], rfl⟩ dX1_badPair_34
set_option maxHeartbeats 2000000 in
theorem m2_badPair (l : Launch) (D : va_G) (dI dZ : ClassId) (h0 : Nat) (ad : Nat → Nat) (n : Nat) (hn : n ≤ 9) (σ : g_St) (u v : Int32) : g_Mi l D dI dZ (g2_w dI dZ h0 ad n) h0 yX2_badPair cX2_badPair 3 .boolean 0 0 [.int u, .int v] σ (fun r τ => r = p_bp n u v ∧ τ = σ) := by
  refine g_starti (own := RX2) (by decide +kernel) rfl (Nat.le_of_ble_eq_true rfl) ?_
  intro p e s m below meth c A ls hr hlk hA C G hl
  replace hl : lv_has ls 3 [(0, .ref h0), (1, .int u), (2, .int v)] := hl
  refine lv_iload_n C.x C.b dX2_badPair_0 rfl (lv_at hl 1 rfl) ?_
  refine lv_if_lt (tgt := 29) C.x C.b dX2_badPair_1 (by decide) (fun c1 => ?_) (fun c1 => ?_)
  · refine lv_iconst (v := 1) C.x C.b dX2_badPair_29 (by decide) ?_
    refine lv_goto (tgt := 34) C.x C.b dX2_badPair_30 (by decide) ?_
    exact g_zret C G hr hlk rfl ⟨by unfold p_bp; rw [if_pos c1], rfl⟩ dX2_badPair_34
  · refine lv_iload_n C.x C.b dX2_badPair_4 rfl (lv_at hl 1 rfl) ?_
    refine g2_f0 C G (lv_at hl 0 rfl) dX2_badPair_5 dX2_badPair_6 ?_
    refine lv_icmp_ge (tgt := 29) C.x C.b dX2_badPair_9 (by decide) (fun c9 => ?_) (fun c9 => ?_)
    · refine lv_iconst (v := 1) C.x C.b dX2_badPair_29 (by decide) ?_
      refine lv_goto (tgt := 34) C.x C.b dX2_badPair_30 (by decide) ?_
      exact g_zret C G hr hlk rfl ⟨by unfold p_bp; rw [if_neg c1, if_pos c9], rfl⟩ dX2_badPair_34
    · refine lv_iload_n C.x C.b dX2_badPair_12 rfl (lv_at hl 2 rfl) ?_
      refine lv_if_lt (tgt := 29) C.x C.b dX2_badPair_13 (by decide) (fun c13 => ?_) (fun c13 => ?_)
      · refine lv_iconst (v := 1) C.x C.b dX2_badPair_29 (by decide) ?_
        refine lv_goto (tgt := 34) C.x C.b dX2_badPair_30 (by decide) ?_
        exact g_zret C G hr hlk rfl ⟨by unfold p_bp; rw [if_neg c1, if_neg c9, if_pos c13], rfl⟩ dX2_badPair_34
      · refine lv_iload_n C.x C.b dX2_badPair_16 rfl (lv_at hl 2 rfl) ?_
        refine g2_f0 C G (lv_at hl 0 rfl) dX2_badPair_17 dX2_badPair_18 ?_
        refine lv_icmp_ge (tgt := 29) C.x C.b dX2_badPair_21 (by decide) (fun c21 => ?_) (fun c21 => ?_)
        · refine lv_iconst (v := 1) C.x C.b dX2_badPair_29 (by decide) ?_
          refine lv_goto (tgt := 34) C.x C.b dX2_badPair_30 (by decide) ?_
          exact g_zret C G hr hlk rfl ⟨by unfold p_bp; rw [if_neg c1, if_neg c9, if_neg c13, if_pos c21], rfl⟩ dX2_badPair_34
        · refine lv_iload_n C.x C.b dX2_badPair_24 rfl (lv_at hl 1 rfl) ?_
          refine lv_iload_n C.x C.b dX2_badPair_25 rfl (lv_at hl 2 rfl) ?_
          refine lv_icmp_ne (tgt := 33) C.x C.b dX2_badPair_26 (by decide) (fun c26 => ?_) (fun c26 => ?_)
          · refine lv_iconst (v := 0) C.x C.b dX2_badPair_33 (by decide) ?_
            exact g_zret C G hr hlk rfl ⟨by unfold p_bp; rw [if_neg c1, if_neg c9, if_neg c13, if_neg c21, if_pos c26], rfl⟩ dX2_badPair_34
          · refine lv_iconst (v := 1) C.x C.b dX2_badPair_29 (by decide) ?_
            refine lv_goto (tgt := 34) C.x C.b dX2_badPair_30 (by decide) ?_
            exact g_zret C G hr hlk rfl ⟨by unfold p_bp; rw [if_neg c1, if_neg c9, if_neg c13, if_neg c21, if_neg (not_not_intro c26)], rfl⟩ dX2_badPair_34
set_option maxHeartbeats 2000000 in
theorem w_ml (C : g_C RX1 p s m args c cX1_mergeLabels 6 D dI dZ) (hn : n ≤ 9) {sm lg : Int32} : ∀ (k i : Nat) (σ : g_St) (H : Heap) (locs : List Loc) (ls : Array Slot), i + k = n → g1_G D dI dZ A H0 h0 ad n σ H locs → lv_has ls 6 [(0, .ref h0), (3, .int sm), (4, .int lg), (5, .int (nI i))] → (∀ (H : Heap) (locs : List Loc) (ls : Array Slot), g1_G D dI dZ A H0 h0 ad n (lp (p_mlf sm lg) k i σ) H locs → lv_has ls 6 [(0, .ref h0)] → W p l e R s m args below meth c H locs 0 0 Q (F0 m 61 ls [])) → W p l e R s m args below meth c H locs 0 0 Q (F0 m 26 ls []) := by
  intro k
  induction k with
  | zero =>
    intro i σ H locs ls hk G hl kk
    refine lv_iload C.x C.b dX1_mergeLabels_26 (lv_at hl 3 rfl) ?_
    refine g1_f0 C G (lv_at hl 0 rfl) dX1_mergeLabels_28 dX1_mergeLabels_29 ?_
    refine lv_icmp_ge (tgt := 61) C.x C.b dX1_mergeLabels_32 (by decide) (fun _ => ?_) (fun hq => absurd (nI_le (by omega) (by omega)) hq)
    exact kk H locs ls G (lv_sub hl [0] rfl)
  | succ k ih =>
    intro i σ H locs ls hk G hl kk
    refine lv_iload C.x C.b dX1_mergeLabels_26 (lv_at hl 3 rfl) ?_
    refine g1_f0 C G (lv_at hl 0 rfl) dX1_mergeLabels_28 dX1_mergeLabels_29 ?_
    refine lv_icmp_ge (tgt := 61) C.x C.b dX1_mergeLabels_32 (by decide) (fun hq => absurd hq (nI_ge (by omega) (by omega))) (fun _ => ?_)
    refine g1_f3 C G (lv_at hl 0 rfl) dX1_mergeLabels_35 dX1_mergeLabels_36 ?_
    refine lv_iload C.x C.b dX1_mergeLabels_39 (lv_at hl 3 rfl) ?_
    refine g1_l3 C G i (by omega) rfl dX1_mergeLabels_41 ?_
    refine lv_iload C.x C.b dX1_mergeLabels_42 (lv_at hl 2 rfl) ?_
    refine lv_icmp_ne (tgt := 55) C.x C.b dX1_mergeLabels_44 (by decide) (fun c44 => ?_) (fun c44 => ?_)
    · refine lv_iinc (v := (nI (i + 1))) (lv' := [(5, .int (nI (i + 1))), (0, .ref h0), (3, .int sm), (4, .int lg)]) C.x C.b dX1_mergeLabels_55 hl (k := 3) rfl (nI_1 i) (by decide) rfl (fun ls hl => ?_)
      refine lv_goto (tgt := 26) C.x C.b dX1_mergeLabels_58 (by decide) ?_
      exact ih (i + 1) _ H locs ls (by omega) G (lv_sub hl [1, 2, 3, 0] rfl) (fun H locs ls G hl => kk H locs ls (by rw [lp_s, show p_mlf sm lg i σ = σ from by unfold p_mlf; rw [if_pos c44]]; exact G) hl)
    · refine g1_f3 C G (lv_at hl 0 rfl) dX1_mergeLabels_47 dX1_mergeLabels_48 ?_
      refine lv_iload C.x C.b dX1_mergeLabels_51 (lv_at hl 3 rfl) ?_
      refine lv_iload_n C.x C.b dX1_mergeLabels_53 rfl (lv_at hl 1 rfl) ?_
      refine g1_s3 C G i (by omega) rfl dX1_mergeLabels_54 (fun H locs G => ?_)
      refine lv_iinc (v := (nI (i + 1))) (lv' := [(5, .int (nI (i + 1))), (0, .ref h0), (3, .int sm), (4, .int lg)]) C.x C.b dX1_mergeLabels_55 hl (k := 3) rfl (nI_1 i) (by decide) rfl (fun ls hl => ?_)
      refine lv_goto (tgt := 26) C.x C.b dX1_mergeLabels_58 (by decide) ?_
      exact ih (i + 1) _ H locs ls (by omega) G (lv_sub hl [1, 2, 3, 0] rfl) (fun H locs ls G hl => kk H locs ls (by rw [lp_s, show p_mlf sm lg i σ = (g_up σ 3 i sm) from by unfold p_mlf; rw [if_neg (not_not_intro c44)]]; exact G) hl)
set_option maxHeartbeats 2000000 in
theorem m1_mergeLabels (l : Launch) (D : va_G) (dI dZ : ClassId) (h0 : Nat) (ad : Nat → Nat) (n : Nat) (hn : n ≤ 9) (σ : g_St) (a b : Int32) : g_Mv l D dI dZ (g1_w dI dZ h0 ad n) h0 yX1_mergeLabels cX1_mergeLabels 6 0 0 [.int a, .int b] σ (fun τ => τ = p_ml n a b σ) := by
  refine g_startv (own := RX1) (by decide +kernel) rfl (Nat.le_of_ble_eq_true rfl) ?_
  intro p e s m below meth c A ls hr hlk hA C G hl
  replace hl : lv_has ls 6 [(0, .ref h0), (1, .int a), (2, .int b)] := hl
  refine lv_iload_n C.x C.b dX1_mergeLabels_0 rfl (lv_at hl 1 rfl) ?_
  refine lv_iload_n C.x C.b dX1_mergeLabels_1 rfl (lv_at hl 2 rfl) ?_
  refine lv_icmp_ge (tgt := 9) C.x C.b dX1_mergeLabels_2 (by decide) (fun c2 => ?_) (fun c2 => ?_)
  · refine lv_iload_n C.x C.b dX1_mergeLabels_9 rfl (lv_at hl 2 rfl) ?_
    refine lv_istore_n (lv' := [(3, .int b), (0, .ref h0), (1, .int a), (2, .int b)]) C.x C.b dX1_mergeLabels_10 rfl hl (by decide) rfl (fun ls hl => ?_)
    refine lv_iload_n C.x C.b dX1_mergeLabels_11 rfl (lv_at hl 2 rfl) ?_
    refine lv_iload_n C.x C.b dX1_mergeLabels_12 rfl (lv_at hl 3 rfl) ?_
    refine lv_icmp_ge (tgt := 20) C.x C.b dX1_mergeLabels_13 (by decide) (fun _ => ?_) (fun hq => absurd c2 hq)
    refine lv_iload_n C.x C.b dX1_mergeLabels_20 rfl (lv_at hl 2 rfl) ?_
    refine lv_istore (lv' := [(4, .int a), (3, .int b), (0, .ref h0), (1, .int a), (2, .int b)]) C.x C.b dX1_mergeLabels_21 hl (by decide) rfl (fun ls hl => ?_)
    refine lv_iconst (v := (nI 0)) C.x C.b dX1_mergeLabels_23 (by decide) ?_
    refine lv_istore (lv' := [(5, .int (nI 0)), (4, .int a), (3, .int b), (0, .ref h0), (1, .int a), (2, .int b)]) C.x C.b dX1_mergeLabels_24 hl (by decide) rfl (fun ls hl => ?_)
    refine w_ml C hn n 0 σ _ _ _ (by omega) G (lv_sub hl [3, 2, 1, 0] rfl) (fun H locs ls G hl => ?_)
    exact g_vret C G hr hlk (by show _ = _; unfold p_ml; rw [if_pos c2, if_pos c2]) dX1_mergeLabels_61
  · refine lv_iload_n C.x C.b dX1_mergeLabels_5 rfl (lv_at hl 1 rfl) ?_
    refine lv_goto (tgt := 10) C.x C.b dX1_mergeLabels_6 (by decide) ?_
    refine lv_istore_n (lv' := [(3, .int a), (0, .ref h0), (1, .int a), (2, .int b)]) C.x C.b dX1_mergeLabels_10 rfl hl (by decide) rfl (fun ls hl => ?_)
    refine lv_iload_n C.x C.b dX1_mergeLabels_11 rfl (lv_at hl 2 rfl) ?_
    refine lv_iload_n C.x C.b dX1_mergeLabels_12 rfl (lv_at hl 3 rfl) ?_
    refine lv_icmp_ge (tgt := 20) C.x C.b dX1_mergeLabels_13 (by decide) (fun hq => absurd hq c2) (fun _ => ?_)
    refine lv_iload_n C.x C.b dX1_mergeLabels_16 rfl (lv_at hl 3 rfl) ?_
    refine lv_goto (tgt := 21) C.x C.b dX1_mergeLabels_17 (by decide) ?_
    refine lv_istore (lv' := [(4, .int b), (3, .int a), (0, .ref h0), (1, .int a), (2, .int b)]) C.x C.b dX1_mergeLabels_21 hl (by decide) rfl (fun ls hl => ?_)
    refine lv_iconst (v := (nI 0)) C.x C.b dX1_mergeLabels_23 (by decide) ?_
    refine lv_istore (lv' := [(5, .int (nI 0)), (4, .int b), (3, .int a), (0, .ref h0), (1, .int a), (2, .int b)]) C.x C.b dX1_mergeLabels_24 hl (by decide) rfl (fun ls hl => ?_)
    refine w_ml C hn n 0 σ _ _ _ (by omega) G (lv_sub hl [3, 2, 1, 0] rfl) (fun H locs ls G hl => ?_)
    exact g_vret C G hr hlk (by show _ = _; unfold p_ml; rw [if_neg c2, if_neg c2]) dX1_mergeLabels_61
set_option maxHeartbeats 2000000 in
theorem w_sl1 (C : g_C RX1 p s m args c cX1_startLabels 4 D dI dZ) (hn : n ≤ 9) {skip : Int32} : ∀ (k i : Nat) (σ : g_St) (H : Heap) (locs : List Loc) (ls : Array Slot), i + k = n → g1_G D dI dZ A H0 h0 ad n σ H locs → lv_has ls 4 [(0, .ref h0), (1, .int skip), (2, .int (nI i))] → (∀ (H : Heap) (locs : List Loc) (ls : Array Slot), g1_G D dI dZ A H0 h0 ad n (lp p_slf k i σ) H locs → lv_has ls 4 [(0, .ref h0), (1, .int skip)] → W p l e R s m args below meth c H locs 0 0 Q (F0 m 23 ls [])) → W p l e R s m args below meth c H locs 0 0 Q (F0 m 2 ls []) := by
  intro k
  induction k with
  | zero =>
    intro i σ H locs ls hk G hl kk
    refine lv_iload_n C.x C.b dX1_startLabels_2 rfl (lv_at hl 2 rfl) ?_
    refine g1_f0 C G (lv_at hl 0 rfl) dX1_startLabels_3 dX1_startLabels_4 ?_
    refine lv_icmp_ge (tgt := 23) C.x C.b dX1_startLabels_7 (by decide) (fun _ => ?_) (fun hq => absurd (nI_le (by omega) (by omega)) hq)
    exact kk H locs ls G (lv_sub hl [0, 1] rfl)
  | succ k ih =>
    intro i σ H locs ls hk G hl kk
    refine lv_iload_n C.x C.b dX1_startLabels_2 rfl (lv_at hl 2 rfl) ?_
    refine g1_f0 C G (lv_at hl 0 rfl) dX1_startLabels_3 dX1_startLabels_4 ?_
    refine lv_icmp_ge (tgt := 23) C.x C.b dX1_startLabels_7 (by decide) (fun hq => absurd hq (nI_ge (by omega) (by omega))) (fun _ => ?_)
    refine g1_f3 C G (lv_at hl 0 rfl) dX1_startLabels_10 dX1_startLabels_11 ?_
    refine lv_iload_n C.x C.b dX1_startLabels_14 rfl (lv_at hl 2 rfl) ?_
    refine lv_iload_n C.x C.b dX1_startLabels_15 rfl (lv_at hl 2 rfl) ?_
    refine g1_s3 C G i (by omega) rfl dX1_startLabels_16 (fun H locs G => ?_)
    refine lv_iinc (v := (nI (i + 1))) (lv' := [(2, .int (nI (i + 1))), (0, .ref h0), (1, .int skip)]) C.x C.b dX1_startLabels_17 hl (k := 2) rfl (nI_1 i) (by decide) rfl (fun ls hl => ?_)
    refine lv_goto (tgt := 2) C.x C.b dX1_startLabels_20 (by decide) ?_
    exact ih (i + 1) _ H locs ls (by omega) G (lv_sub hl [1, 2, 0] rfl) kk
set_option maxHeartbeats 2000000 in
theorem w_sl2 (C : g_C RX1 p s m args c cX1_startLabels 4 D dI dZ) (hn : n ≤ 9) (hA : ∀ q, H0.size ≤ q → A q) (hf : 0 + 1 ≤ R.frames) (hlo : 8 + (6 + 11) + 0 ≤ R.locals) {skip : Int32} {u : Nat} (hu : u < n) : ∀ (k i : Nat) (σ : g_St) (H : Heap) (locs : List Loc) (ls : Array Slot), i + k = n → g1_G D dI dZ A H0 h0 ad n σ H locs → lv_has ls 4 [(0, .ref h0), (1, .int skip), (2, .int (nI u)), (3, .int (nI i))] → (∀ (H : Heap) (locs : List Loc) (ls : Array Slot), g1_G D dI dZ A H0 h0 ad n (lp (p_slv n skip u) k i σ) H locs → lv_has ls 4 [(0, .ref h0), (1, .int skip), (2, .int (nI u))] → W p l e R s m args below meth c H locs 0 0 Q (F0 m 91 ls [])) → W p l e R s m args below meth c H locs 0 0 Q (F0 m 37 ls []) := by
  intro k
  induction k with
  | zero =>
    intro i σ H locs ls hk G hl kk
    refine lv_iload_n C.x C.b dX1_startLabels_37 rfl (lv_at hl 3 rfl) ?_
    refine g1_f0 C G (lv_at hl 0 rfl) dX1_startLabels_38 dX1_startLabels_39 ?_
    refine lv_icmp_ge (tgt := 91) C.x C.b dX1_startLabels_42 (by decide) (fun _ => ?_) (fun hq => absurd (nI_le (by omega) (by omega)) hq)
    exact kk H locs ls G (lv_sub hl [0, 1, 2] rfl)
  | succ k ih =>
    intro i σ H locs ls hk G hl kk
    refine lv_iload_n C.x C.b dX1_startLabels_37 rfl (lv_at hl 3 rfl) ?_
    refine g1_f0 C G (lv_at hl 0 rfl) dX1_startLabels_38 dX1_startLabels_39 ?_
    refine lv_icmp_ge (tgt := 91) C.x C.b dX1_startLabels_42 (by decide) (fun hq => absurd hq (nI_ge (by omega) (by omega))) (fun _ => ?_)
    refine lv_iload_n C.x C.b dX1_startLabels_45 rfl (lv_at hl 2 rfl) ?_
    refine lv_iload_n C.x C.b dX1_startLabels_46 rfl (lv_at hl 1 rfl) ?_
    refine lv_icmp_eq (tgt := 85) C.x C.b dX1_startLabels_47 (by decide) (fun c47 => ?_) (fun c47 => ?_)
    · refine lv_iinc (v := (nI (i + 1))) (lv' := [(3, .int (nI (i + 1))), (0, .ref h0), (1, .int skip), (2, .int (nI u))]) C.x C.b dX1_startLabels_85 hl (k := 3) rfl (nI_1 i) (by decide) rfl (fun ls hl => ?_)
      refine lv_goto (tgt := 37) C.x C.b dX1_startLabels_88 (by decide) ?_
      exact ih (i + 1) _ H locs ls (by omega) G (lv_sub hl [1, 2, 3, 0] rfl) (fun H locs ls G hl => kk H locs ls (by rw [lp_s, show p_slv n skip u i σ = σ from by unfold p_slv; rw [if_pos c47]]; exact G) hl)
    · refine lv_iload_n C.x C.b dX1_startLabels_50 rfl (lv_at hl 3 rfl) ?_
      refine lv_iload_n C.x C.b dX1_startLabels_51 rfl (lv_at hl 1 rfl) ?_
      refine lv_icmp_eq (tgt := 85) C.x C.b dX1_startLabels_52 (by decide) (fun c52 => ?_) (fun c52 => ?_)
      · refine lv_iinc (v := (nI (i + 1))) (lv' := [(3, .int (nI (i + 1))), (0, .ref h0), (1, .int skip), (2, .int (nI u))]) C.x C.b dX1_startLabels_85 hl (k := 3) rfl (nI_1 i) (by decide) rfl (fun ls hl => ?_)
        refine lv_goto (tgt := 37) C.x C.b dX1_startLabels_88 (by decide) ?_
        exact ih (i + 1) _ H locs ls (by omega) G (lv_sub hl [1, 2, 3, 0] rfl) (fun H locs ls G hl => kk H locs ls (by rw [lp_s, show p_slv n skip u i σ = σ from by unfold p_slv; rw [if_neg c47, if_pos c52]]; exact G) hl)
      · refine g1_f2 C G (lv_at hl 0 rfl) dX1_startLabels_55 dX1_startLabels_56 ?_
        refine lv_iload_n C.x C.b dX1_startLabels_59 rfl (lv_at hl 2 rfl) ?_
        refine lv_bipush (v := 9) C.x C.b dX1_startLabels_60 (by decide) ?_
        refine lv_imul C.x C.b dX1_startLabels_62 ?_
        refine lv_iload_n C.x C.b dX1_startLabels_63 rfl (lv_at hl 3 rfl) ?_
        refine lv_iadd C.x C.b dX1_startLabels_64 ?_
        refine g1_l2 C G (u * 9 + i) (by omega) (g_ixx rfl rfl) dX1_startLabels_65 ?_
        refine lv_if_eq (tgt := 85) C.x C.b dX1_startLabels_66 (by decide) (fun c66 => ?_) (fun c66 => ?_)
        · refine lv_iinc (v := (nI (i + 1))) (lv' := [(3, .int (nI (i + 1))), (0, .ref h0), (1, .int skip), (2, .int (nI u))]) C.x C.b dX1_startLabels_85 hl (k := 3) rfl (nI_1 i) (by decide) rfl (fun ls hl => ?_)
          refine lv_goto (tgt := 37) C.x C.b dX1_startLabels_88 (by decide) ?_
          exact ih (i + 1) _ H locs ls (by omega) G (lv_sub hl [1, 2, 3, 0] rfl) (fun H locs ls G hl => kk H locs ls (by rw [lp_s, show p_slv n skip u i σ = σ from by unfold p_slv; rw [if_neg c47, if_neg c52, if_pos c66]]; exact G) hl)
        · refine lv_aload_n C.x C.b dX1_startLabels_69 rfl (lv_at hl 0 rfl) ?_
          refine g1_f3 C G (lv_at hl 0 rfl) dX1_startLabels_70 dX1_startLabels_71 ?_
          refine lv_iload_n C.x C.b dX1_startLabels_74 rfl (lv_at hl 2 rfl) ?_
          refine g1_l3 C G u (by omega) rfl dX1_startLabels_75 ?_
          refine g1_f3 C G (lv_at hl 0 rfl) dX1_startLabels_76 dX1_startLabels_77 ?_
          refine lv_iload_n C.x C.b dX1_startLabels_80 rfl (lv_at hl 3 rfl) ?_
          refine g1_l3 C G i (by omega) rfl dX1_startLabels_81 ?_
          refine g_callv (As := [.int (σ 3 u), .int (σ 3 i)]) (rest := []) C G hA (m1_mergeLabels l D dI dZ h0 ad n hn σ (σ 3 u) (σ 3 i)) (cw11_mergeLabels C.t hf hlo) rfl ⟨0, _, _, rfl, rfl, rfl⟩ hl.1 (Nat.le_of_ble_eq_true rfl) rfl dX1_startLabels_82 (fun σ1 H locs hw G => ?_)
          have hw : σ1 = p_ml n (σ 3 u) (σ 3 i) σ := hw
          subst hw
          refine lv_iinc (v := (nI (i + 1))) (lv' := [(3, .int (nI (i + 1))), (0, .ref h0), (1, .int skip), (2, .int (nI u))]) C.x C.b dX1_startLabels_85 hl (k := 3) rfl (nI_1 i) (by decide) rfl (fun ls hl => ?_)
          refine lv_goto (tgt := 37) C.x C.b dX1_startLabels_88 (by decide) ?_
          exact ih (i + 1) _ H locs ls (by omega) G (lv_sub hl [1, 2, 3, 0] rfl) (fun H locs ls G hl => kk H locs ls (by rw [lp_s, show p_slv n skip u i σ = (p_ml n (σ 3 u) (σ 3 i) σ) from by unfold p_slv; rw [if_neg c47, if_neg c52, if_neg c66]]; exact G) hl)
set_option maxHeartbeats 2000000 in
theorem w_sl3 (C : g_C RX1 p s m args c cX1_startLabels 4 D dI dZ) (hn : n ≤ 9) (hA : ∀ q, H0.size ≤ q → A q) (hf : 0 + 1 ≤ R.frames) (hlo : 8 + (6 + 11) + 0 ≤ R.locals) {skip : Int32} : ∀ (k i : Nat) (σ : g_St) (H : Heap) (locs : List Loc) (ls : Array Slot), i + k = n → g1_G D dI dZ A H0 h0 ad n σ H locs → lv_has ls 4 [(0, .ref h0), (1, .int skip), (2, .int (nI i))] → (∀ (H : Heap) (locs : List Loc) (ls : Array Slot), g1_G D dI dZ A H0 h0 ad n (lp (p_slu n skip) k i σ) H locs → lv_has ls 4 [(0, .ref h0)] → W p l e R s m args below meth c H locs 0 0 Q (F0 m 97 ls [])) → W p l e R s m args below meth c H locs 0 0 Q (F0 m 25 ls []) := by
  intro k
  induction k with
  | zero =>
    intro i σ H locs ls hk G hl kk
    refine lv_iload_n C.x C.b dX1_startLabels_25 rfl (lv_at hl 2 rfl) ?_
    refine g1_f0 C G (lv_at hl 0 rfl) dX1_startLabels_26 dX1_startLabels_27 ?_
    refine lv_icmp_ge (tgt := 97) C.x C.b dX1_startLabels_30 (by decide) (fun _ => ?_) (fun hq => absurd (nI_le (by omega) (by omega)) hq)
    exact kk H locs ls G (lv_sub hl [0] rfl)
  | succ k ih =>
    intro i σ H locs ls hk G hl kk
    refine lv_iload_n C.x C.b dX1_startLabels_25 rfl (lv_at hl 2 rfl) ?_
    refine g1_f0 C G (lv_at hl 0 rfl) dX1_startLabels_26 dX1_startLabels_27 ?_
    refine lv_icmp_ge (tgt := 97) C.x C.b dX1_startLabels_30 (by decide) (fun hq => absurd hq (nI_ge (by omega) (by omega))) (fun _ => ?_)
    refine lv_iload_n C.x C.b dX1_startLabels_33 rfl (lv_at hl 2 rfl) ?_
    refine lv_iconst (v := 1) C.x C.b dX1_startLabels_34 (by decide) ?_
    refine lv_iadd C.x C.b dX1_startLabels_35 ?_
    rw [show (nI i + 1 : Int32) = nI (i + 1) from nI_1 i]
    refine lv_istore_n (lv' := [(3, .int (nI (i + 1))), (0, .ref h0), (1, .int skip), (2, .int (nI i))]) C.x C.b dX1_startLabels_36 rfl hl (by decide) rfl (fun ls hl => ?_)
    refine w_sl2 C hn hA hf hlo (u := i) (by omega) (n - (i + 1)) (i + 1) σ H locs ls (by omega) G (lv_sub hl [1, 2, 3, 0] rfl) (fun H locs ls G hl => ?_)
    refine lv_iinc (v := (nI (i + 1))) (lv' := [(2, .int (nI (i + 1))), (0, .ref h0), (1, .int skip)]) C.x C.b dX1_startLabels_91 hl (k := 2) rfl (nI_1 i) (by decide) rfl (fun ls hl => ?_)
    refine lv_goto (tgt := 25) C.x C.b dX1_startLabels_94 (by decide) ?_
    exact ih (i + 1) (p_slu n skip i σ) H locs ls (by omega) G (lv_sub hl [1, 2, 0] rfl) kk
set_option maxHeartbeats 2000000 in
theorem m1_startLabels (l : Launch) (D : va_G) (dI dZ : ClassId) (h0 : Nat) (ad : Nat → Nat) (n : Nat) (hn : n ≤ 9) (σ : g_St) (skip : Int32) : g_Mv l D dI dZ (g1_w dI dZ h0 ad n) h0 yX1_startLabels cX1_startLabels 4 1 25 [.int skip] σ (fun τ => τ = p_sl n skip σ) := by
  refine g_startv (own := RX1) (by decide +kernel) rfl (Nat.le_of_ble_eq_true rfl) ?_
  intro p e s m below meth c A ls hr hlk hA C G hl
  replace hl : lv_has ls 4 [(0, .ref h0), (1, .int skip)] := hl
  refine lv_iconst (v := (nI 0)) C.x C.b dX1_startLabels_0 (by decide) ?_
  refine lv_istore_n (lv' := [(2, .int (nI 0)), (0, .ref h0), (1, .int skip)]) C.x C.b dX1_startLabels_1 rfl hl (by decide) rfl (fun ls hl => ?_)
  refine w_sl1 C hn n 0 σ _ _ _ (by omega) G (lv_sub hl [1, 2, 0] rfl) (fun H locs ls G hl => ?_)
  refine lv_iconst (v := (nI 0)) C.x C.b dX1_startLabels_23 (by decide) ?_
  refine lv_istore_n (lv' := [(2, .int (nI 0)), (0, .ref h0), (1, .int skip)]) C.x C.b dX1_startLabels_24 rfl hl (by decide) rfl (fun ls hl => ?_)
  refine w_sl3 C hn hA (by decide) (by decide) n 0 _ _ _ _ (by omega) G (lv_sub hl [1, 2, 0] rfl) (fun H locs ls G hl => ?_)
  exact g_vret C G hr hlk rfl dX1_startLabels_97
set_option maxHeartbeats 2000000 in
theorem w_ms (C : g_C RX1 p s m args c cX1_mergeSet 4 D dI dZ) (hn : n ≤ 9) (hA : ∀ q, H0.size ≤ q → A q) (hf : 0 + 1 ≤ R.frames) (hlo : 8 + (6 + 11) + 0 ≤ R.locals) {set : Int32} : ∀ (k i : Nat) (q : Int32 × g_St) (H : Heap) (locs : List Loc) (ls : Array Slot), i + k = n → q.1 < 0 ∨ g_in 9 q.1 → g1_G D dI dZ A H0 h0 ad n q.2 H locs → lv_has ls 4 [(0, .ref h0), (1, .int set), (2, .int q.1), (3, .int (nI i))] → (∀ (H : Heap) (locs : List Loc) (ls : Array Slot), g1_G D dI dZ A H0 h0 ad n (lp (p_msf n set) k i q).2 H locs → lv_has ls 4 [(0, .ref h0)] → W p l e R s m args below meth c H locs 0 0 Q (F0 m 52 ls [])) → W p l e R s m args below meth c H locs 0 0 Q (F0 m 4 ls []) := by
  intro k
  induction k with
  | zero =>
    intro i q H locs ls hk hq0 G hl kk
    refine lv_iload_n C.x C.b dX1_mergeSet_4 rfl (lv_at hl 3 rfl) ?_
    refine g1_f0 C G (lv_at hl 0 rfl) dX1_mergeSet_5 dX1_mergeSet_6 ?_
    refine lv_icmp_ge (tgt := 52) C.x C.b dX1_mergeSet_9 (by decide) (fun _ => ?_) (fun hq => absurd (nI_le (by omega) (by omega)) hq)
    exact kk H locs ls G (lv_sub hl [0] rfl)
  | succ k ih =>
    intro i q H locs ls hk hq0 G hl kk
    refine lv_iload_n C.x C.b dX1_mergeSet_4 rfl (lv_at hl 3 rfl) ?_
    refine g1_f0 C G (lv_at hl 0 rfl) dX1_mergeSet_5 dX1_mergeSet_6 ?_
    refine lv_icmp_ge (tgt := 52) C.x C.b dX1_mergeSet_9 (by decide) (fun hq => absurd hq (nI_ge (by omega) (by omega))) (fun _ => ?_)
    refine lv_iload_n C.x C.b dX1_mergeSet_12 rfl (lv_at hl 1 rfl) ?_
    refine lv_iload_n C.x C.b dX1_mergeSet_13 rfl (lv_at hl 3 rfl) ?_
    refine lv_ishr C.x C.b dX1_mergeSet_14 ?_
    refine lv_iconst (v := 1) C.x C.b dX1_mergeSet_15 (by decide) ?_
    refine lv_iand C.x C.b dX1_mergeSet_16 ?_
    refine lv_iconst (v := 1) C.x C.b dX1_mergeSet_17 (by decide) ?_
    refine lv_icmp_ne (tgt := 46) C.x C.b dX1_mergeSet_18 (by decide) (fun c18 => ?_) (fun c18 => ?_)
    · refine lv_iinc (v := (nI (i + 1))) (lv' := [(3, .int (nI (i + 1))), (0, .ref h0), (1, .int set), (2, .int q.1)]) C.x C.b dX1_mergeSet_46 hl (k := 3) rfl (nI_1 i) (by decide) rfl (fun ls hl => ?_)
      refine lv_goto (tgt := 4) C.x C.b dX1_mergeSet_49 (by decide) ?_
      exact ih (i + 1) q H locs ls (by omega) hq0 G (lv_sub hl [1, 2, 3, 0] rfl) (fun H locs ls G hl => kk H locs ls (by rw [lp_s, show p_msf n set i q = q from by unfold p_msf; rw [if_pos c18]]; exact G) hl)
    · refine lv_iload_n C.x C.b dX1_mergeSet_21 rfl (lv_at hl 2 rfl) ?_
      refine lv_if_ge (tgt := 30) C.x C.b dX1_mergeSet_22 (by decide) (fun c22 => ?_) (fun c22 => ?_)
      · have hin : g_in 9 q.1 := hq0.resolve_left (fun h => absurd h (Int32.not_lt.mpr c22))
        have hlt := hin.lt
        refine lv_aload_n C.x C.b dX1_mergeSet_30 rfl (lv_at hl 0 rfl) ?_
        refine g1_f3 C G (lv_at hl 0 rfl) dX1_mergeSet_31 dX1_mergeSet_32 ?_
        refine lv_iload_n C.x C.b dX1_mergeSet_35 rfl (lv_at hl 2 rfl) ?_
        refine g1_l3 C G (nx q.1) (by omega) hin.e dX1_mergeSet_36 ?_
        refine g1_f3 C G (lv_at hl 0 rfl) dX1_mergeSet_37 dX1_mergeSet_38 ?_
        refine lv_iload_n C.x C.b dX1_mergeSet_41 rfl (lv_at hl 3 rfl) ?_
        refine g1_l3 C G i (by omega) rfl dX1_mergeSet_42 ?_
        refine g_callv (As := [.int (q.2 3 (nx q.1)), .int (q.2 3 i)]) (rest := []) C G hA (m1_mergeLabels l D dI dZ h0 ad n hn q.2 (q.2 3 (nx q.1)) (q.2 3 i)) (cw11_mergeLabels C.t hf hlo) rfl ⟨0, _, _, rfl, rfl, rfl⟩ hl.1 (Nat.le_of_ble_eq_true rfl) rfl dX1_mergeSet_43 (fun σ1 H locs hw G => ?_)
        have hw : σ1 = p_ml n (q.2 3 (nx q.1)) (q.2 3 i) q.2 := hw
        subst hw
        refine lv_iinc (v := (nI (i + 1))) (lv' := [(3, .int (nI (i + 1))), (0, .ref h0), (1, .int set), (2, .int q.1)]) C.x C.b dX1_mergeSet_46 hl (k := 3) rfl (nI_1 i) (by decide) rfl (fun ls hl => ?_)
        refine lv_goto (tgt := 4) C.x C.b dX1_mergeSet_49 (by decide) ?_
        exact ih (i + 1) (q.1, p_ml n (q.2 3 (nx q.1)) (q.2 3 i) q.2) H locs ls (by omega) hq0 G (lv_sub hl [1, 2, 3, 0] rfl) (fun H locs ls G hl => kk H locs ls (by rw [lp_s, show p_msf n set i q = (q.1, p_ml n (q.2 3 (nx q.1)) (q.2 3 i) q.2) from by unfold p_msf; rw [if_neg (not_not_intro c18), if_pos c22]]; exact G) hl)
      · refine lv_iload_n C.x C.b dX1_mergeSet_25 rfl (lv_at hl 3 rfl) ?_
        refine lv_istore_n (lv' := [(2, .int (nI i)), (0, .ref h0), (1, .int set), (3, .int (nI i))]) C.x C.b dX1_mergeSet_26 rfl hl (by decide) rfl (fun ls hl => ?_)
        refine lv_goto (tgt := 46) C.x C.b dX1_mergeSet_27 (by decide) ?_
        refine lv_iinc (v := (nI (i + 1))) (lv' := [(3, .int (nI (i + 1))), (2, .int (nI i)), (0, .ref h0), (1, .int set)]) C.x C.b dX1_mergeSet_46 hl (k := 3) rfl (nI_1 i) (by decide) rfl (fun ls hl => ?_)
        refine lv_goto (tgt := 4) C.x C.b dX1_mergeSet_49 (by decide) ?_
        exact ih (i + 1) (nI i, q.2) H locs ls (by omega) (Or.inr (g_in.mk (by omega))) G (lv_sub hl [2, 3, 1, 0] rfl) (fun H locs ls G hl => kk H locs ls (by rw [lp_s, show p_msf n set i q = (nI i, q.2) from by unfold p_msf; rw [if_neg (not_not_intro c18), if_neg c22]]; exact G) hl)
set_option maxHeartbeats 2000000 in
theorem m1_mergeSet (l : Launch) (D : va_G) (dI dZ : ClassId) (h0 : Nat) (ad : Nat → Nat) (n : Nat) (hn : n ≤ 9) (σ : g_St) (set : Int32) : g_Mv l D dI dZ (g1_w dI dZ h0 ad n) h0 yX1_mergeSet cX1_mergeSet 4 1 25 [.int set] σ (fun τ => τ = p_ms n set σ) := by
  refine g_startv (own := RX1) (by decide +kernel) rfl (Nat.le_of_ble_eq_true rfl) ?_
  intro p e s m below meth c A ls hr hlk hA C G hl
  replace hl : lv_has ls 4 [(0, .ref h0), (1, .int set)] := hl
  refine lv_iconst (v := (-1)) C.x C.b dX1_mergeSet_0 (by decide) ?_
  refine lv_istore_n (lv' := [(2, .int (-1)), (0, .ref h0), (1, .int set)]) C.x C.b dX1_mergeSet_1 rfl hl (by decide) rfl (fun ls hl => ?_)
  refine lv_iconst (v := (nI 0)) C.x C.b dX1_mergeSet_2 (by decide) ?_
  refine lv_istore_n (lv' := [(3, .int (nI 0)), (2, .int (-1)), (0, .ref h0), (1, .int set)]) C.x C.b dX1_mergeSet_3 rfl hl (by decide) rfl (fun ls hl => ?_)
  refine w_ms C hn hA (by decide) (by decide) n 0 (-1, σ) _ _ _ (by omega) (Or.inl (show (-1 : Int32) < 0 by decide)) G (lv_sub hl [2, 3, 1, 0] rfl) (fun H locs ls G hl => ?_)
  exact g_vret C G hr hlk rfl dX1_mergeSet_52
end W1
end
section
/-! what the pure functions leave alone, and ranges -/
set_option maxRecDepth 100000
theorem lp_keep {f : Nat → g_St → g_St} {k : Nat} (h : ∀ i s, f i s k = s k) : ∀ (c i : Nat) (s : g_St), lp f c i s k = s k := by
  intro c
  induction c with
  | zero => intro i s; rfl
  | succ c ih => intro i s; rw [lp_s, ih, h]
theorem g_up_ne {σ : g_St} {k j a : Nat} {v : Int32} (h : ¬ a = k) : g_up σ k j v a = σ a := if_neg h
theorem g_up_eq {σ : g_St} {k j : Nat} {v : Int32} : g_up σ k j v k = upd (σ k) j v := if_pos rfl
theorem g_up_s {σ : g_St} {k j : Nat} {v : Int32} : g_up σ k j v k j = v := by rw [g_up_eq]; exact if_pos rfl
theorem g_up_n {σ : g_St} {k j b : Nat} {v : Int32} (h : ¬ b = j) : g_up σ k j v k b = σ k b := by rw [g_up_eq]; exact if_neg h
theorem p_mlf_k {sm lg : Int32} {k : Nat} (h : ¬ k = 3) (v : Nat) (σ : g_St) : p_mlf sm lg v σ k = σ k := by
  unfold p_mlf; split
  · rfl
  · exact g_up_ne h
theorem p_ml_k {n : Nat} {a b : Int32} {k : Nat} (h : ¬ k = 3) (σ : g_St) : p_ml n a b σ k = σ k := lp_keep (fun i s => p_mlf_k h i s) _ _ _
theorem p_slv_k {n : Nat} {skip : Int32} {u k : Nat} (h : ¬ k = 3) (v : Nat) (σ : g_St) : p_slv n skip u v σ k = σ k := by
  unfold p_slv; split
  · rfl
  · split
    · rfl
    · split
      · rfl
      · exact p_ml_k h σ
theorem p_sl_k {n : Nat} {skip : Int32} {k : Nat} (h : ¬ k = 3) (σ : g_St) : p_sl n skip σ k = σ k := by
  unfold p_sl
  rw [lp_keep (f := p_slu n skip) (fun i s => lp_keep (fun i s => p_slv_k h i s) _ _ _), lp_keep (f := p_slf) (fun i s => g_up_ne h)]
theorem p_swl_k {skip : Int32} {u k : Nat} (h : ¬ k = 6) (σ : g_St) : p_swl skip u σ k = σ k := g_up_ne h
theorem p_swg_k {u k : Nat} (h : ¬ k = 5) (σ : g_St) : p_swg u σ k = σ k := by
  unfold p_swg; split
  · rfl
  · exact g_up_ne h
theorem p_swv_k {skip : Int32} {u k : Nat} (h : ¬ k = 4) (v : Nat) (σ : g_St) : p_swv skip u v σ k = σ k := by
  unfold p_swv; split
  · rfl
  · split
    · rfl
    · split
      · rfl
      · exact g_up_ne h
theorem p_swu_k {n : Nat} {skip : Int32} {k : Nat} (h4 : ¬ k = 4) (h5 : ¬ k = 5) (h6 : ¬ k = 6) (u : Nat) (σ : g_St) : p_swu n skip u σ k = σ k := by
  unfold p_swu
  rw [lp_keep (fun i s => p_swv_k h4 i s), p_swg_k h5, p_swl_k h6]
theorem p_sw_k {n : Nat} {skip : Int32} {k : Nat} (h4 : ¬ k = 4) (h5 : ¬ k = 5) (h6 : ¬ k = 6) (σ : g_St) : p_sw n skip σ k = σ k := by
  unfold p_sw
  rw [lp_keep (fun i s => p_swu_k h4 h5 h6 i s), g_up_ne h5, lp_keep (f := p_swz) (fun i s => g_up_ne h4)]
theorem p_mhl_in {n : Nat} {σ : g_St} : ∀ (c i : Nat) (b : Int32), i + c ≤ n → (b < 0 ∨ g_in n b) → (lp (p_mhf σ) c i b < 0 ∨ g_in n (lp (p_mhf σ) c i b)) := by
  intro c
  induction c with
  | zero => intro i b _ h; exact h
  | succ c ih =>
    intro i b hi h
    rw [lp_s]
    refine ih (i + 1) _ (by omega) ?_
    unfold p_mhf; split
    · exact h
    · split
      · exact h
      · split
        · exact Or.inr (g_in.mk (by omega))
        · split
          · exact h
          · exact Or.inr (g_in.mk (by omega))
theorem p_mh_in {n : Nat} {σ : g_St} (hn : n ≤ 9) : g_in 9 (p_mh n σ) := by
  unfold p_mh; split
  · rename_i h
    rcases p_mhl_in (n := n) (σ := σ) n 0 (-1) (by omega) (Or.inl (by decide)) with h1 | h1
    · exact absurd h1 (Int32.not_lt.mpr h)
    · exact h1.mono hn
  · exact ⟨0, by decide, rfl⟩
theorem p_phv_k {k : Nat} (h : ¬ k = 8) (v : Nat) (σ : g_St) : p_phv v σ k = σ k := by
  unfold p_phv; split
  · rfl
  · split
    · rfl
    · exact g_up_ne h
theorem p_phi_9 {n i : Nat} {σ : g_St} (hn : n ≤ 9) : g_in 9 (p_phi n i σ 9 0) := by
  unfold p_phi
  rw [lp_keep (fun i s => p_phv_k (by decide) i s)]
  exact p_mh_in hn
theorem p_phi_10 {n i : Nat} {σ : g_St} : p_phi n i σ 10 0 = σ 9 0 := by
  unfold p_phi
  rw [lp_keep (fun i s => p_phv_k (by decide) i s)]
  rfl
theorem p_ph_in {n cnt : Nat} {σ : g_St} (hn : n ≤ 9) : (1 ≤ cnt → g_in 9 (p_ph n cnt σ 9 0)) ∧ (2 ≤ cnt → g_in 9 (p_ph n cnt σ 10 0)) := by
  have h := lp_ind (f := p_phi n) (fun j s => (1 ≤ j → g_in 9 (s 9 0)) ∧ (2 ≤ j → g_in 9 (s 10 0))) cnt 0 (g_up (lp p_phz n 0 σ) 9 0 (-1)) ⟨fun h => absurd h (by decide), fun h => absurd h (by decide)⟩ (fun j s _ _ h => ⟨fun _ => p_phi_9 hn, fun h2 => by rw [p_phi_10]; exact h.1 (by omega)⟩)
  rw [Nat.zero_add] at h
  exact h
theorem p_mtf_k {k : Nat} (h : ¬ k = 4) (v : Nat) (σ : g_St) : p_mtf v σ k = σ k := by
  unfold p_mtf p_mt2 p_mt1
  rw [g_up_ne h, g_up_ne h]
end
section
set_option maxRecDepth 100000
section W2
variable {p : Program} {l : Launch} {e : Env} {R : Room} {s : State} {m : MethodId} {args : Array Value} {below : List Frame} {meth : Method} {c : Code} {Q : State → Prop} {D : va_G} {dI dZ : ClassId} {A : Nat → Prop} {H0 : Heap} {h0 : Nat} {ad : Nat → Nat} {n : Nat}
set_option maxHeartbeats 2000000 in
theorem w_sw1 (C : g_C RX1 p s m args c cX1_sumWeights 4 D dI dZ) (hn : n ≤ 9) {skip : Int32} : ∀ (k i : Nat) (σ : g_St) (H : Heap) (locs : List Loc) (ls : Array Slot), i + k = 81 → g1_G D dI dZ A H0 h0 ad n σ H locs → lv_has ls 4 [(0, .ref h0), (1, .int skip), (2, .int (nI i))] → (∀ (H : Heap) (locs : List Loc) (ls : Array Slot), g1_G D dI dZ A H0 h0 ad n (lp p_swz k i σ) H locs → lv_has ls 4 [(0, .ref h0), (1, .int skip)] → W p l e R s m args below meth c H locs 0 0 Q (F0 m 21 ls [])) → W p l e R s m args below meth c H locs 0 0 Q (F0 m 2 ls []) := by
  intro k
  induction k with
  | zero =>
    intro i σ H locs ls hk G hl kk
    refine lv_iload_n C.x C.b dX1_sumWeights_2 rfl (lv_at hl 2 rfl) ?_
    refine lv_bipush (v := (nI 81)) C.x C.b dX1_sumWeights_3 (by decide) ?_
    refine lv_icmp_ge (tgt := 21) C.x C.b dX1_sumWeights_5 (by decide) (fun _ => ?_) (fun hq => absurd (nI_le (by omega) (by omega)) hq)
    exact kk H locs ls G (lv_sub hl [0, 1] rfl)
  | succ k ih =>
    intro i σ H locs ls hk G hl kk
    refine lv_iload_n C.x C.b dX1_sumWeights_2 rfl (lv_at hl 2 rfl) ?_
    refine lv_bipush (v := (nI 81)) C.x C.b dX1_sumWeights_3 (by decide) ?_
    refine lv_icmp_ge (tgt := 21) C.x C.b dX1_sumWeights_5 (by decide) (fun hq => absurd hq (nI_ge (by omega) (by omega))) (fun _ => ?_)
    refine g1_f4 C G (lv_at hl 0 rfl) dX1_sumWeights_8 dX1_sumWeights_9 ?_
    refine lv_iload_n C.x C.b dX1_sumWeights_12 rfl (lv_at hl 2 rfl) ?_
    refine lv_iconst (v := 0) C.x C.b dX1_sumWeights_13 (by decide) ?_
    refine g1_s4 C G i (by omega) rfl dX1_sumWeights_14 (fun H locs G => ?_)
    refine lv_iinc (v := (nI (i + 1))) (lv' := [(2, .int (nI (i + 1))), (0, .ref h0), (1, .int skip)]) C.x C.b dX1_sumWeights_15 hl (k := 2) rfl (nI_1 i) (by decide) rfl (fun ls hl => ?_)
    refine lv_goto (tgt := 2) C.x C.b dX1_sumWeights_18 (by decide) ?_
    exact ih (i + 1) _ H locs ls (by omega) G (lv_sub hl [1, 2, 0] rfl) kk
set_option maxHeartbeats 2000000 in
theorem w_sw2 (C : g_C RX1 p s m args c cX1_sumWeights 4 D dI dZ) (hn : n ≤ 9) {skip : Int32} {u : Nat} (hu : u < n) : ∀ (k i : Nat) (σ : g_St) (H : Heap) (locs : List Loc) (ls : Array Slot), i + k = n → (∀ j, j < n → g_in 9 (σ 3 j)) → g1_G D dI dZ A H0 h0 ad n σ H locs → lv_has ls 4 [(0, .ref h0), (1, .int skip), (2, .int (nI u)), (3, .int (nI i))] → (∀ (H : Heap) (locs : List Loc) (ls : Array Slot), g1_G D dI dZ A H0 h0 ad n (lp (p_swv skip u) k i σ) H locs → lv_has ls 4 [(0, .ref h0), (1, .int skip), (2, .int (nI u))] → W p l e R s m args below meth c H locs 0 0 Q (F0 m 157 ls [])) → W p l e R s m args below meth c H locs 0 0 Q (F0 m 83 ls []) := by
  intro k
  induction k with
  | zero =>
    intro i σ H locs ls hk hL G hl kk
    refine lv_iload_n C.x C.b dX1_sumWeights_83 rfl (lv_at hl 3 rfl) ?_
    refine g1_f0 C G (lv_at hl 0 rfl) dX1_sumWeights_84 dX1_sumWeights_85 ?_
    refine lv_icmp_ge (tgt := 157) C.x C.b dX1_sumWeights_88 (by decide) (fun _ => ?_) (fun hq => absurd (nI_le (by omega) (by omega)) hq)
    exact kk H locs ls G (lv_sub hl [0, 1, 2] rfl)
  | succ k ih =>
    intro i σ H locs ls hk hL G hl kk
    refine lv_iload_n C.x C.b dX1_sumWeights_83 rfl (lv_at hl 3 rfl) ?_
    refine g1_f0 C G (lv_at hl 0 rfl) dX1_sumWeights_84 dX1_sumWeights_85 ?_
    refine lv_icmp_ge (tgt := 157) C.x C.b dX1_sumWeights_88 (by decide) (fun hq => absurd hq (nI_ge (by omega) (by omega))) (fun _ => ?_)
    refine lv_iload_n C.x C.b dX1_sumWeights_91 rfl (lv_at hl 2 rfl) ?_
    refine lv_iload_n C.x C.b dX1_sumWeights_92 rfl (lv_at hl 1 rfl) ?_
    refine lv_icmp_eq (tgt := 151) C.x C.b dX1_sumWeights_93 (by decide) (fun c93 => ?_) (fun c93 => ?_)
    · refine lv_iinc (v := (nI (i + 1))) (lv' := [(3, .int (nI (i + 1))), (0, .ref h0), (1, .int skip), (2, .int (nI u))]) C.x C.b dX1_sumWeights_151 hl (k := 3) rfl (nI_1 i) (by decide) rfl (fun ls hl => ?_)
      refine lv_goto (tgt := 83) C.x C.b dX1_sumWeights_154 (by decide) ?_
      exact ih (i + 1) σ H locs ls (by omega) hL G (lv_sub hl [1, 2, 3, 0] rfl) (fun H locs ls G hl => kk H locs ls (by rw [lp_s, show p_swv skip u i σ = σ from by unfold p_swv; rw [if_pos c93]]; exact G) hl)
    · refine lv_iload_n C.x C.b dX1_sumWeights_96 rfl (lv_at hl 3 rfl) ?_
      refine lv_iload_n C.x C.b dX1_sumWeights_97 rfl (lv_at hl 1 rfl) ?_
      refine lv_icmp_eq (tgt := 151) C.x C.b dX1_sumWeights_98 (by decide) (fun c98 => ?_) (fun c98 => ?_)
      · refine lv_iinc (v := (nI (i + 1))) (lv' := [(3, .int (nI (i + 1))), (0, .ref h0), (1, .int skip), (2, .int (nI u))]) C.x C.b dX1_sumWeights_151 hl (k := 3) rfl (nI_1 i) (by decide) rfl (fun ls hl => ?_)
        refine lv_goto (tgt := 83) C.x C.b dX1_sumWeights_154 (by decide) ?_
        exact ih (i + 1) σ H locs ls (by omega) hL G (lv_sub hl [1, 2, 3, 0] rfl) (fun H locs ls G hl => kk H locs ls (by rw [lp_s, show p_swv skip u i σ = σ from by unfold p_swv; rw [if_neg c93, if_pos c98]]; exact G) hl)
      · refine g1_f3 C G (lv_at hl 0 rfl) dX1_sumWeights_101 dX1_sumWeights_102 ?_
        refine lv_iload_n C.x C.b dX1_sumWeights_105 rfl (lv_at hl 2 rfl) ?_
        refine g1_l3 C G u (by omega) rfl dX1_sumWeights_106 ?_
        refine g1_f3 C G (lv_at hl 0 rfl) dX1_sumWeights_107 dX1_sumWeights_108 ?_
        refine lv_iload_n C.x C.b dX1_sumWeights_111 rfl (lv_at hl 3 rfl) ?_
        refine g1_l3 C G i (by omega) rfl dX1_sumWeights_112 ?_
        refine lv_icmp_eq (tgt := 151) C.x C.b dX1_sumWeights_113 (by decide) (fun c113 => ?_) (fun c113 => ?_)
        · refine lv_iinc (v := (nI (i + 1))) (lv' := [(3, .int (nI (i + 1))), (0, .ref h0), (1, .int skip), (2, .int (nI u))]) C.x C.b dX1_sumWeights_151 hl (k := 3) rfl (nI_1 i) (by decide) rfl (fun ls hl => ?_)
          refine lv_goto (tgt := 83) C.x C.b dX1_sumWeights_154 (by decide) ?_
          exact ih (i + 1) σ H locs ls (by omega) hL G (lv_sub hl [1, 2, 3, 0] rfl) (fun H locs ls G hl => kk H locs ls (by rw [lp_s, show p_swv skip u i σ = σ from by unfold p_swv; rw [if_neg c93, if_neg c98, if_pos c113]]; exact G) hl)
        · have hLu := hL u hu
          have hLi := hL i (by omega)
          have hLu1 := hLu.lt
          have hLi1 := hLi.lt
          refine g1_f4 C G (lv_at hl 0 rfl) dX1_sumWeights_116 dX1_sumWeights_117 ?_
          refine g1_f3 C G (lv_at hl 0 rfl) dX1_sumWeights_120 dX1_sumWeights_121 ?_
          refine lv_iload_n C.x C.b dX1_sumWeights_124 rfl (lv_at hl 2 rfl) ?_
          refine g1_l3 C G u (by omega) rfl dX1_sumWeights_125 ?_
          refine lv_bipush (v := 9) C.x C.b dX1_sumWeights_126 (by decide) ?_
          refine lv_imul C.x C.b dX1_sumWeights_128 ?_
          refine g1_f3 C G (lv_at hl 0 rfl) dX1_sumWeights_129 dX1_sumWeights_130 ?_
          refine lv_iload_n C.x C.b dX1_sumWeights_133 rfl (lv_at hl 3 rfl) ?_
          refine g1_l3 C G i (by omega) rfl dX1_sumWeights_134 ?_
          refine lv_iadd C.x C.b dX1_sumWeights_135 ?_
          refine lv_dup2_11 C.x C.b dX1_sumWeights_136 rfl rfl ?_
          refine g1_l4 C G ((nx (σ 3 u)) * 9 + (nx (σ 3 i))) (by omega) (g_ixx hLu.e hLi.e) dX1_sumWeights_137 ?_
          refine g1_f1 C G (lv_at hl 0 rfl) dX1_sumWeights_138 dX1_sumWeights_139 ?_
          refine lv_iload_n C.x C.b dX1_sumWeights_142 rfl (lv_at hl 2 rfl) ?_
          refine lv_bipush (v := 9) C.x C.b dX1_sumWeights_143 (by decide) ?_
          refine lv_imul C.x C.b dX1_sumWeights_145 ?_
          refine lv_iload_n C.x C.b dX1_sumWeights_146 rfl (lv_at hl 3 rfl) ?_
          refine lv_iadd C.x C.b dX1_sumWeights_147 ?_
          refine g1_l1 C G (u * 9 + i) (by omega) (g_ixx rfl rfl) dX1_sumWeights_148 ?_
          refine lv_iadd C.x C.b dX1_sumWeights_149 ?_
          refine g1_s4 C G ((nx (σ 3 u)) * 9 + (nx (σ 3 i))) (by omega) (g_ixx hLu.e hLi.e) dX1_sumWeights_150 (fun H locs G => ?_)
          refine lv_iinc (v := (nI (i + 1))) (lv' := [(3, .int (nI (i + 1))), (0, .ref h0), (1, .int skip), (2, .int (nI u))]) C.x C.b dX1_sumWeights_151 hl (k := 3) rfl (nI_1 i) (by decide) rfl (fun ls hl => ?_)
          refine lv_goto (tgt := 83) C.x C.b dX1_sumWeights_154 (by decide) ?_
          exact ih (i + 1) (g_up σ 4 ((nx (σ 3 u)) * 9 + (nx (σ 3 i))) ((σ 4 ((nx (σ 3 u)) * 9 + (nx (σ 3 i)))) + (σ 1 (u * 9 + i)))) H locs ls (by omega) hL G (lv_sub hl [1, 2, 3, 0] rfl) (fun H locs ls G hl => kk H locs ls (by rw [lp_s, show p_swv skip u i σ = (g_up σ 4 ((nx (σ 3 u)) * 9 + (nx (σ 3 i))) ((σ 4 ((nx (σ 3 u)) * 9 + (nx (σ 3 i)))) + (σ 1 (u * 9 + i)))) from by unfold p_swv; rw [if_neg c93, if_neg c98, if_neg c113]]; exact G) hl)
set_option maxHeartbeats 2000000 in
theorem w_sw3 (C : g_C RX1 p s m args c cX1_sumWeights 4 D dI dZ) (hn : n ≤ 9) {skip : Int32} : ∀ (k i : Nat) (σ : g_St) (H : Heap) (locs : List Loc) (ls : Array Slot), i + k = n → (∀ j, j < n → g_in 9 (σ 3 j)) → g1_G D dI dZ A H0 h0 ad n σ H locs → lv_has ls 4 [(0, .ref h0), (1, .int skip), (2, .int (nI i))] → (∀ (H : Heap) (locs : List Loc) (ls : Array Slot), g1_G D dI dZ A H0 h0 ad n (lp (p_swu n skip) k i σ) H locs → lv_has ls 4 [(0, .ref h0)] → W p l e R s m args below meth c H locs 0 0 Q (F0 m 163 ls [])) → W p l e R s m args below meth c H locs 0 0 Q (F0 m 28 ls []) := by
  intro k
  induction k with
  | zero =>
    intro i σ H locs ls hk hL G hl kk
    refine lv_iload_n C.x C.b dX1_sumWeights_28 rfl (lv_at hl 2 rfl) ?_
    refine g1_f0 C G (lv_at hl 0 rfl) dX1_sumWeights_29 dX1_sumWeights_30 ?_
    refine lv_icmp_ge (tgt := 163) C.x C.b dX1_sumWeights_33 (by decide) (fun _ => ?_) (fun hq => absurd (nI_le (by omega) (by omega)) hq)
    exact kk H locs ls G (lv_sub hl [0] rfl)
  | succ k ih =>
    intro i σ H locs ls hk hL G hl kk
    refine lv_iload_n C.x C.b dX1_sumWeights_28 rfl (lv_at hl 2 rfl) ?_
    refine g1_f0 C G (lv_at hl 0 rfl) dX1_sumWeights_29 dX1_sumWeights_30 ?_
    refine lv_icmp_ge (tgt := 163) C.x C.b dX1_sumWeights_33 (by decide) (fun hq => absurd hq (nI_ge (by omega) (by omega))) (fun _ => ?_)
    have K2 : ∀ (H : Heap) (locs : List Loc) (ls : Array Slot), g1_G D dI dZ A H0 h0 ad n (p_swg i (p_swl skip i σ)) H locs → lv_has ls 4 [(0, .ref h0), (1, .int skip), (2, .int (nI i))] → W p l e R s m args below meth c H locs 0 0 Q (F0 m 81 ls []) := by
      intro H locs ls G hl
      refine lv_iconst (v := (nI 0)) C.x C.b dX1_sumWeights_81 (by decide) ?_
      refine lv_istore_n (lv' := [(3, .int (nI 0)), (0, .ref h0), (1, .int skip), (2, .int (nI i))]) C.x C.b dX1_sumWeights_82 rfl hl (by decide) rfl (fun ls hl => ?_)
      refine w_sw2 C hn (u := i) (by omega) n 0 _ H locs ls (by omega) (by intro j hj; rw [p_swg_k (by decide), p_swl_k (by decide)]; exact hL j hj) G (lv_sub hl [1, 2, 3, 0] rfl) (fun H locs ls G hl => ?_)
      refine lv_iinc (v := (nI (i + 1))) (lv' := [(2, .int (nI (i + 1))), (0, .ref h0), (1, .int skip)]) C.x C.b dX1_sumWeights_157 hl (k := 2) rfl (nI_1 i) (by decide) rfl (fun ls hl => ?_)
      refine lv_goto (tgt := 28) C.x C.b dX1_sumWeights_160 (by decide) ?_
      exact ih (i + 1) (p_swu n skip i σ) H locs ls (by omega) (by intro j hj; rw [p_swu_k (by decide) (by decide) (by decide)]; exact hL j hj) G (lv_sub hl [1, 2, 0] rfl) kk
    have K1 : ∀ (H : Heap) (locs : List Loc) (ls : Array Slot), g1_G D dI dZ A H0 h0 ad n (p_swl skip i σ) H locs → lv_has ls 4 [(0, .ref h0), (1, .int skip), (2, .int (nI i))] → W p l e R s m args below meth c H locs 0 0 Q (F0 m 62 ls []) := by
      intro H locs ls G hl
      refine g1_f6 C G (lv_at hl 0 rfl) dX1_sumWeights_62 dX1_sumWeights_63 ?_
      refine lv_iload_n C.x C.b dX1_sumWeights_66 rfl (lv_at hl 2 rfl) ?_
      refine g1_l6 C G i (by omega) rfl dX1_sumWeights_67 ?_
      refine lv_if_eq (tgt := 81) C.x C.b dX1_sumWeights_68 (by decide) (fun c68 => ?_) (fun c68 => ?_)
      · exact K2 H locs ls (by unfold p_swg; rw [if_pos c68]; exact G) hl
      · refine lv_aload_n C.x C.b dX1_sumWeights_71 rfl (lv_at hl 0 rfl) ?_
        refine lv_dup C.x C.b dX1_sumWeights_72 rfl ?_
        refine g1_g5 C G dX1_sumWeights_73 ?_
        refine lv_iconst (v := 1) C.x C.b dX1_sumWeights_76 (by decide) ?_
        refine lv_iadd C.x C.b dX1_sumWeights_77 ?_
        refine g1_p5 C G dX1_sumWeights_78 (fun H locs G => ?_)
        exact K2 H locs ls (by unfold p_swg; rw [if_neg c68]; exact G) hl
    refine g1_f6 C G (lv_at hl 0 rfl) dX1_sumWeights_36 dX1_sumWeights_37 ?_
    refine lv_iload_n C.x C.b dX1_sumWeights_40 rfl (lv_at hl 2 rfl) ?_
    refine lv_iload_n C.x C.b dX1_sumWeights_41 rfl (lv_at hl 2 rfl) ?_
    refine lv_iload_n C.x C.b dX1_sumWeights_42 rfl (lv_at hl 1 rfl) ?_
    refine lv_icmp_eq (tgt := 60) C.x C.b dX1_sumWeights_43 (by decide) (fun c43 => ?_) (fun c43 => ?_)
    · refine lv_iconst (v := 0) C.x C.b dX1_sumWeights_60 (by decide) ?_
      refine g1_s6 C G i (by omega) rfl g_z0 dX1_sumWeights_61 (fun H locs G => ?_)
      exact K1 H locs ls (by unfold p_swl; rw [if_pos c43]; exact G) (lv_sub hl [0, 1, 2] rfl)
    · refine g1_f3 C G (lv_at hl 0 rfl) dX1_sumWeights_46 dX1_sumWeights_47 ?_
      refine lv_iload_n C.x C.b dX1_sumWeights_50 rfl (lv_at hl 2 rfl) ?_
      refine g1_l3 C G i (by omega) rfl dX1_sumWeights_51 ?_
      refine lv_iload_n C.x C.b dX1_sumWeights_52 rfl (lv_at hl 2 rfl) ?_
      refine lv_icmp_ne (tgt := 60) C.x C.b dX1_sumWeights_53 (by decide) (fun c53 => ?_) (fun c53 => ?_)
      · refine lv_iconst (v := 0) C.x C.b dX1_sumWeights_60 (by decide) ?_
        refine g1_s6 C G i (by omega) rfl g_z0 dX1_sumWeights_61 (fun H locs G => ?_)
        exact K1 H locs ls (by unfold p_swl; rw [if_neg c43, if_pos c53]; exact G) (lv_sub hl [0, 1, 2] rfl)
      · refine lv_iconst (v := 1) C.x C.b dX1_sumWeights_56 (by decide) ?_
        refine lv_goto (tgt := 61) C.x C.b dX1_sumWeights_57 (by decide) ?_
        refine g1_s6 C G i (by omega) rfl g_z1 dX1_sumWeights_61 (fun H locs G => ?_)
        exact K1 H locs ls (by unfold p_swl; rw [if_neg c43, if_neg (not_not_intro c53)]; exact G) (lv_sub hl [0, 1, 2] rfl)
set_option maxHeartbeats 2000000 in
theorem m1_sumWeights (l : Launch) (D : va_G) (dI dZ : ClassId) (h0 : Nat) (ad : Nat → Nat) (n : Nat) (hn : n ≤ 9) (σ : g_St) (skip : Int32) (hL : ∀ j, j < n → g_in 9 (σ 3 j)) : g_Mv l D dI dZ (g1_w dI dZ h0 ad n) h0 yX1_sumWeights cX1_sumWeights 4 0 0 [.int skip] σ (fun τ => τ = p_sw n skip σ) := by
  refine g_startv (own := RX1) (by decide +kernel) rfl (Nat.le_of_ble_eq_true rfl) ?_
  intro p e s m below meth c A ls hr hlk hA C G hl
  replace hl : lv_has ls 4 [(0, .ref h0), (1, .int skip)] := hl
  refine lv_iconst (v := (nI 0)) C.x C.b dX1_sumWeights_0 (by decide) ?_
  refine lv_istore_n (lv' := [(2, .int (nI 0)), (0, .ref h0), (1, .int skip)]) C.x C.b dX1_sumWeights_1 rfl hl (by decide) rfl (fun ls hl => ?_)
  refine w_sw1 C hn 81 0 σ _ _ _ (by omega) G (lv_sub hl [1, 2, 0] rfl) (fun H locs ls G hl => ?_)
  refine lv_aload_n C.x C.b dX1_sumWeights_21 rfl (lv_at hl 0 rfl) ?_
  refine lv_iconst (v := 0) C.x C.b dX1_sumWeights_22 (by decide) ?_
  refine g1_p5 C G dX1_sumWeights_23 (fun H locs G => ?_)
  refine lv_iconst (v := (nI 0)) C.x C.b dX1_sumWeights_26 (by decide) ?_
  refine lv_istore_n (lv' := [(2, .int (nI 0)), (0, .ref h0), (1, .int skip)]) C.x C.b dX1_sumWeights_27 rfl hl (by decide) rfl (fun ls hl => ?_)
  refine w_sw3 C hn n 0 _ _ _ _ (by omega) (by intro j hj; rw [g_up_ne (by decide), lp_keep (f := p_swz) (fun i s => g_up_ne (by decide))]; exact hL j hj) G (lv_sub hl [1, 2, 0] rfl) (fun H locs ls G hl => ?_)
  exact g_vret C G hr hlk rfl dX1_sumWeights_163
set_option maxHeartbeats 2000000 in
theorem w_mh (C : g_C RX1 p s m args c cX1_mostHanging 3 D dI dZ) (hn : n ≤ 9) {σ : g_St} : ∀ (k i : Nat) (b : Int32) (H : Heap) (locs : List Loc) (ls : Array Slot), i + k = n → (b < 0 ∨ g_in 9 b) → g1_G D dI dZ A H0 h0 ad n σ H locs → lv_has ls 3 [(0, .ref h0), (1, .int b), (2, .int (nI i))] → (∀ (H : Heap) (locs : List Loc) (ls : Array Slot), g1_G D dI dZ A H0 h0 ad n σ H locs → lv_has ls 3 [(0, .ref h0), (1, .int (lp (p_mhf σ) k i b))] → W p l e R s m args below meth c H locs 0 0 Q (F0 m 57 ls [])) → W p l e R s m args below meth c H locs 0 0 Q (F0 m 4 ls []) := by
  intro k
  induction k with
  | zero =>
    intro i b H locs ls hk hb G hl kk
    refine lv_iload_n C.x C.b dX1_mostHanging_4 rfl (lv_at hl 2 rfl) ?_
    refine g1_f0 C G (lv_at hl 0 rfl) dX1_mostHanging_5 dX1_mostHanging_6 ?_
    refine lv_icmp_ge (tgt := 57) C.x C.b dX1_mostHanging_9 (by decide) (fun _ => ?_) (fun hq => absurd (nI_le (by omega) (by omega)) hq)
    exact kk H locs ls G (lv_sub hl [0, 1] rfl)
  | succ k ih =>
    intro i b H locs ls hk hb G hl kk
    refine lv_iload_n C.x C.b dX1_mostHanging_4 rfl (lv_at hl 2 rfl) ?_
    refine g1_f0 C G (lv_at hl 0 rfl) dX1_mostHanging_5 dX1_mostHanging_6 ?_
    refine lv_icmp_ge (tgt := 57) C.x C.b dX1_mostHanging_9 (by decide) (fun hq => absurd hq (nI_ge (by omega) (by omega))) (fun _ => ?_)
    refine g1_f6 C G (lv_at hl 0 rfl) dX1_mostHanging_12 dX1_mostHanging_13 ?_
    refine lv_iload_n C.x C.b dX1_mostHanging_16 rfl (lv_at hl 2 rfl) ?_
    refine g1_l6 C G i (by omega) rfl dX1_mostHanging_17 ?_
    refine lv_if_eq (tgt := 51) C.x C.b dX1_mostHanging_18 (by decide) (fun c18 => ?_) (fun c18 => ?_)
    · refine lv_iinc (v := (nI (i + 1))) (lv' := [(2, .int (nI (i + 1))), (0, .ref h0), (1, .int b)]) C.x C.b dX1_mostHanging_51 hl (k := 2) rfl (nI_1 i) (by decide) rfl (fun ls hl => ?_)
      refine lv_goto (tgt := 4) C.x C.b dX1_mostHanging_54 (by decide) ?_
      exact ih (i + 1) b H locs ls (by omega) hb G (lv_sub hl [1, 2, 0] rfl) (fun H locs ls G hl => kk H locs ls G (by rw [lp_s, show p_mhf σ i b = b from by unfold p_mhf; rw [if_pos c18]]; exact hl))
    · refine g1_f7 C G (lv_at hl 0 rfl) dX1_mostHanging_21 dX1_mostHanging_22 ?_
      refine lv_iload_n C.x C.b dX1_mostHanging_25 rfl (lv_at hl 2 rfl) ?_
      refine g1_l7 C G i (by omega) rfl dX1_mostHanging_26 ?_
      refine lv_if_ne (tgt := 51) C.x C.b dX1_mostHanging_27 (by decide) (fun c27 => ?_) (fun c27 => ?_)
      · refine lv_iinc (v := (nI (i + 1))) (lv' := [(2, .int (nI (i + 1))), (0, .ref h0), (1, .int b)]) C.x C.b dX1_mostHanging_51 hl (k := 2) rfl (nI_1 i) (by decide) rfl (fun ls hl => ?_)
        refine lv_goto (tgt := 4) C.x C.b dX1_mostHanging_54 (by decide) ?_
        exact ih (i + 1) b H locs ls (by omega) hb G (lv_sub hl [1, 2, 0] rfl) (fun H locs ls G hl => kk H locs ls G (by rw [lp_s, show p_mhf σ i b = b from by unfold p_mhf; rw [if_neg c18, if_pos c27]]; exact hl))
      · refine lv_iload_n C.x C.b dX1_mostHanging_30 rfl (lv_at hl 1 rfl) ?_
        refine lv_if_lt (tgt := 49) C.x C.b dX1_mostHanging_31 (by decide) (fun c31 => ?_) (fun c31 => ?_)
        · refine lv_iload_n C.x C.b dX1_mostHanging_49 rfl (lv_at hl 2 rfl) ?_
          refine lv_istore_n (lv' := [(1, .int (nI i)), (0, .ref h0), (2, .int (nI i))]) C.x C.b dX1_mostHanging_50 rfl hl (by decide) rfl (fun ls hl => ?_)
          refine lv_iinc (v := (nI (i + 1))) (lv' := [(2, .int (nI (i + 1))), (1, .int (nI i)), (0, .ref h0)]) C.x C.b dX1_mostHanging_51 hl (k := 2) rfl (nI_1 i) (by decide) rfl (fun ls hl => ?_)
          refine lv_goto (tgt := 4) C.x C.b dX1_mostHanging_54 (by decide) ?_
          exact ih (i + 1) (nI i) H locs ls (by omega) (Or.inr (g_in.mk (by omega))) G (lv_sub hl [2, 1, 0] rfl) (fun H locs ls G hl => kk H locs ls G (by rw [lp_s, show p_mhf σ i b = (nI i) from by unfold p_mhf; rw [if_neg c18, if_neg (not_not_intro c27), if_pos c31]]; exact hl))
        · have hin : g_in 9 b := hb.resolve_left c31
          have hlt := hin.lt
          refine g1_f8 C G (lv_at hl 0 rfl) dX1_mostHanging_34 dX1_mostHanging_35 ?_
          refine lv_iload_n C.x C.b dX1_mostHanging_38 rfl (lv_at hl 2 rfl) ?_
          refine g1_l8 C G i (by omega) rfl dX1_mostHanging_39 ?_
          refine g1_f8 C G (lv_at hl 0 rfl) dX1_mostHanging_40 dX1_mostHanging_41 ?_
          refine lv_iload_n C.x C.b dX1_mostHanging_44 rfl (lv_at hl 1 rfl) ?_
          refine g1_l8 C G (nx b) (by omega) hin.e dX1_mostHanging_45 ?_
          refine lv_icmp_le (tgt := 51) C.x C.b dX1_mostHanging_46 (by decide) (fun c46 => ?_) (fun c46 => ?_)
          · refine lv_iinc (v := (nI (i + 1))) (lv' := [(2, .int (nI (i + 1))), (0, .ref h0), (1, .int b)]) C.x C.b dX1_mostHanging_51 hl (k := 2) rfl (nI_1 i) (by decide) rfl (fun ls hl => ?_)
            refine lv_goto (tgt := 4) C.x C.b dX1_mostHanging_54 (by decide) ?_
            exact ih (i + 1) b H locs ls (by omega) hb G (lv_sub hl [1, 2, 0] rfl) (fun H locs ls G hl => kk H locs ls G (by rw [lp_s, show p_mhf σ i b = b from by unfold p_mhf; rw [if_neg c18, if_neg (not_not_intro c27), if_neg c31, if_pos c46]]; exact hl))
          · refine lv_iload_n C.x C.b dX1_mostHanging_49 rfl (lv_at hl 2 rfl) ?_
            refine lv_istore_n (lv' := [(1, .int (nI i)), (0, .ref h0), (2, .int (nI i))]) C.x C.b dX1_mostHanging_50 rfl hl (by decide) rfl (fun ls hl => ?_)
            refine lv_iinc (v := (nI (i + 1))) (lv' := [(2, .int (nI (i + 1))), (1, .int (nI i)), (0, .ref h0)]) C.x C.b dX1_mostHanging_51 hl (k := 2) rfl (nI_1 i) (by decide) rfl (fun ls hl => ?_)
            refine lv_goto (tgt := 4) C.x C.b dX1_mostHanging_54 (by decide) ?_
            exact ih (i + 1) (nI i) H locs ls (by omega) (Or.inr (g_in.mk (by omega))) G (lv_sub hl [2, 1, 0] rfl) (fun H locs ls G hl => kk H locs ls G (by rw [lp_s, show p_mhf σ i b = (nI i) from by unfold p_mhf; rw [if_neg c18, if_neg (not_not_intro c27), if_neg c31, if_neg c46]]; exact hl))
set_option maxHeartbeats 2000000 in
theorem m1_mostHanging (l : Launch) (D : va_G) (dI dZ : ClassId) (h0 : Nat) (ad : Nat → Nat) (n : Nat) (hn : n ≤ 9) (σ : g_St) : g_Mi l D dI dZ (g1_w dI dZ h0 ad n) h0 yX1_mostHanging cX1_mostHanging 3 .int 0 0 [] σ (fun r τ => r = p_mh n σ ∧ τ = σ) := by
  refine g_starti (own := RX1) (by decide +kernel) rfl (Nat.le_of_ble_eq_true rfl) ?_
  intro p e s m below meth c A ls hr hlk hA C G hl
  replace hl : lv_has ls 3 [(0, .ref h0)] := hl
  refine lv_iconst (v := (-1)) C.x C.b dX1_mostHanging_0 (by decide) ?_
  refine lv_istore_n (lv' := [(1, .int (-1)), (0, .ref h0)]) C.x C.b dX1_mostHanging_1 rfl hl (by decide) rfl (fun ls hl => ?_)
  refine lv_iconst (v := (nI 0)) C.x C.b dX1_mostHanging_2 (by decide) ?_
  refine lv_istore_n (lv' := [(2, .int (nI 0)), (1, .int (-1)), (0, .ref h0)]) C.x C.b dX1_mostHanging_3 rfl hl (by decide) rfl (fun ls hl => ?_)
  refine w_mh C hn n 0 (-1) _ _ _ (by omega) (Or.inl (by decide)) G (lv_sub hl [2, 1, 0] rfl) (fun H locs ls G hl => ?_)
  refine lv_iload_n C.x C.b dX1_mostHanging_57 rfl (lv_at hl 1 rfl) ?_
  refine lv_if_ge (tgt := 65) C.x C.b dX1_mostHanging_58 (by decide) (fun c58 => ?_) (fun c58 => ?_)
  · refine lv_iload_n C.x C.b dX1_mostHanging_65 rfl (lv_at hl 1 rfl) ?_
    exact g_iret C G hr hlk ⟨by unfold p_mh; rw [if_pos c58], rfl⟩ dX1_mostHanging_66
  · refine lv_iconst (v := 0) C.x C.b dX1_mostHanging_61 (by decide) ?_
    refine lv_goto (tgt := 66) C.x C.b dX1_mostHanging_62 (by decide) ?_
    exact g_iret C G hr hlk ⟨by unfold p_mh; rw [if_neg c58], rfl⟩ dX1_mostHanging_66
set_option maxHeartbeats 2000000 in
theorem w_ph1 (C : g_C RX1 p s m args c cX1_phase 4 D dI dZ) (hn : n ≤ 9) {cnt : Nat} : ∀ (k i : Nat) (σ : g_St) (H : Heap) (locs : List Loc) (ls : Array Slot), i + k = n → g1_G D dI dZ A H0 h0 ad n σ H locs → lv_has ls 4 [(0, .ref h0), (1, .int (nI cnt)), (2, .int (nI i))] → (∀ (H : Heap) (locs : List Loc) (ls : Array Slot), g1_G D dI dZ A H0 h0 ad n (lp p_phz k i σ) H locs → lv_has ls 4 [(0, .ref h0), (1, .int (nI cnt))] → W p l e R s m args below meth c H locs 0 0 Q (F0 m 30 ls [])) → W p l e R s m args below meth c H locs 0 0 Q (F0 m 2 ls []) := by
  intro k
  induction k with
  | zero =>
    intro i σ H locs ls hk G hl kk
    refine lv_iload_n C.x C.b dX1_phase_2 rfl (lv_at hl 2 rfl) ?_
    refine g1_f0 C G (lv_at hl 0 rfl) dX1_phase_3 dX1_phase_4 ?_
    refine lv_icmp_ge (tgt := 30) C.x C.b dX1_phase_7 (by decide) (fun _ => ?_) (fun hq => absurd (nI_le (by omega) (by omega)) hq)
    exact kk H locs ls G (lv_sub hl [0, 1] rfl)
  | succ k ih =>
    intro i σ H locs ls hk G hl kk
    refine lv_iload_n C.x C.b dX1_phase_2 rfl (lv_at hl 2 rfl) ?_
    refine g1_f0 C G (lv_at hl 0 rfl) dX1_phase_3 dX1_phase_4 ?_
    refine lv_icmp_ge (tgt := 30) C.x C.b dX1_phase_7 (by decide) (fun hq => absurd hq (nI_ge (by omega) (by omega))) (fun _ => ?_)
    refine g1_f7 C G (lv_at hl 0 rfl) dX1_phase_10 dX1_phase_11 ?_
    refine lv_iload_n C.x C.b dX1_phase_14 rfl (lv_at hl 2 rfl) ?_
    refine lv_iconst (v := 0) C.x C.b dX1_phase_15 (by decide) ?_
    refine g1_s7 C G i (by omega) rfl g_z0 dX1_phase_16 (fun H locs G => ?_)
    refine g1_f8 C G (lv_at hl 0 rfl) dX1_phase_17 dX1_phase_18 ?_
    refine lv_iload_n C.x C.b dX1_phase_21 rfl (lv_at hl 2 rfl) ?_
    refine lv_iconst (v := 0) C.x C.b dX1_phase_22 (by decide) ?_
    refine g1_s8 C G i (by omega) rfl dX1_phase_23 (fun H locs G => ?_)
    refine lv_iinc (v := (nI (i + 1))) (lv' := [(2, .int (nI (i + 1))), (0, .ref h0), (1, .int (nI cnt))]) C.x C.b dX1_phase_24 hl (k := 2) rfl (nI_1 i) (by decide) rfl (fun ls hl => ?_)
    refine lv_goto (tgt := 2) C.x C.b dX1_phase_27 (by decide) ?_
    exact ih (i + 1) _ H locs ls (by omega) G (lv_sub hl [1, 2, 0] rfl) kk
set_option maxHeartbeats 2000000 in
theorem w_ph2 (C : g_C RX1 p s m args c cX1_phase 4 D dI dZ) (hn : n ≤ 9) {cnt j : Nat} : ∀ (k i : Nat) (σ : g_St) (H : Heap) (locs : List Loc) (ls : Array Slot), i + k = n → g_in 9 (σ 9 0) → g1_G D dI dZ A H0 h0 ad n σ H locs → lv_has ls 4 [(0, .ref h0), (1, .int (nI cnt)), (2, .int (nI j)), (3, .int (nI i))] → (∀ (H : Heap) (locs : List Loc) (ls : Array Slot), g1_G D dI dZ A H0 h0 ad n (lp p_phv k i σ) H locs → lv_has ls 4 [(0, .ref h0), (1, .int (nI cnt)), (2, .int (nI j))] → W p l e R s m args below meth c H locs 0 0 Q (F0 m 125 ls [])) → W p l e R s m args below meth c H locs 0 0 Q (F0 m 70 ls []) := by
  intro k
  induction k with
  | zero =>
    intro i σ H locs ls hk h9 G hl kk
    refine lv_iload_n C.x C.b dX1_phase_70 rfl (lv_at hl 3 rfl) ?_
    refine g1_f0 C G (lv_at hl 0 rfl) dX1_phase_71 dX1_phase_72 ?_
    refine lv_icmp_ge (tgt := 125) C.x C.b dX1_phase_75 (by decide) (fun _ => ?_) (fun hq => absurd (nI_le (by omega) (by omega)) hq)
    exact kk H locs ls G (lv_sub hl [0, 1, 2] rfl)
  | succ k ih =>
    intro i σ H locs ls hk h9 G hl kk
    refine lv_iload_n C.x C.b dX1_phase_70 rfl (lv_at hl 3 rfl) ?_
    refine g1_f0 C G (lv_at hl 0 rfl) dX1_phase_71 dX1_phase_72 ?_
    refine lv_icmp_ge (tgt := 125) C.x C.b dX1_phase_75 (by decide) (fun hq => absurd hq (nI_ge (by omega) (by omega))) (fun _ => ?_)
    refine g1_f6 C G (lv_at hl 0 rfl) dX1_phase_78 dX1_phase_79 ?_
    refine lv_iload_n C.x C.b dX1_phase_82 rfl (lv_at hl 3 rfl) ?_
    refine g1_l6 C G i (by omega) rfl dX1_phase_83 ?_
    refine lv_if_eq (tgt := 119) C.x C.b dX1_phase_84 (by decide) (fun c84 => ?_) (fun c84 => ?_)
    · refine lv_iinc (v := (nI (i + 1))) (lv' := [(3, .int (nI (i + 1))), (0, .ref h0), (1, .int (nI cnt)), (2, .int (nI j))]) C.x C.b dX1_phase_119 hl (k := 3) rfl (nI_1 i) (by decide) rfl (fun ls hl => ?_)
      refine lv_goto (tgt := 70) C.x C.b dX1_phase_122 (by decide) ?_
      exact ih (i + 1) σ H locs ls (by omega) h9 G (lv_sub hl [1, 2, 3, 0] rfl) (fun H locs ls G hl => kk H locs ls (by rw [lp_s, show p_phv i σ = σ from by unfold p_phv; rw [if_pos c84]]; exact G) hl)
    · refine g1_f7 C G (lv_at hl 0 rfl) dX1_phase_87 dX1_phase_88 ?_
      refine lv_iload_n C.x C.b dX1_phase_91 rfl (lv_at hl 3 rfl) ?_
      refine g1_l7 C G i (by omega) rfl dX1_phase_92 ?_
      refine lv_if_ne (tgt := 119) C.x C.b dX1_phase_93 (by decide) (fun c93 => ?_) (fun c93 => ?_)
      · refine lv_iinc (v := (nI (i + 1))) (lv' := [(3, .int (nI (i + 1))), (0, .ref h0), (1, .int (nI cnt)), (2, .int (nI j))]) C.x C.b dX1_phase_119 hl (k := 3) rfl (nI_1 i) (by decide) rfl (fun ls hl => ?_)
        refine lv_goto (tgt := 70) C.x C.b dX1_phase_122 (by decide) ?_
        exact ih (i + 1) σ H locs ls (by omega) h9 G (lv_sub hl [1, 2, 3, 0] rfl) (fun H locs ls G hl => kk H locs ls (by rw [lp_s, show p_phv i σ = σ from by unfold p_phv; rw [if_neg c84, if_pos c93]]; exact G) hl)
      · have h91 := h9.lt
        refine g1_f8 C G (lv_at hl 0 rfl) dX1_phase_96 dX1_phase_97 ?_
        refine lv_iload_n C.x C.b dX1_phase_100 rfl (lv_at hl 3 rfl) ?_
        refine lv_dup2_11 C.x C.b dX1_phase_101 rfl rfl ?_
        refine g1_l8 C G i (by omega) rfl dX1_phase_102 ?_
        refine g1_f4 C G (lv_at hl 0 rfl) dX1_phase_103 dX1_phase_104 ?_
        refine g1_f9 C G (lv_at hl 0 rfl) dX1_phase_107 dX1_phase_108 ?_
        refine lv_bipush (v := 9) C.x C.b dX1_phase_111 (by decide) ?_
        refine lv_imul C.x C.b dX1_phase_113 ?_
        refine lv_iload_n C.x C.b dX1_phase_114 rfl (lv_at hl 3 rfl) ?_
        refine lv_iadd C.x C.b dX1_phase_115 ?_
        refine g1_l4 C G ((nx (σ 9 0)) * 9 + i) (by omega) (g_ixx h9.e rfl) dX1_phase_116 ?_
        refine lv_iadd C.x C.b dX1_phase_117 ?_
        refine g1_s8 C G i (by omega) rfl dX1_phase_118 (fun H locs G => ?_)
        refine lv_iinc (v := (nI (i + 1))) (lv' := [(3, .int (nI (i + 1))), (0, .ref h0), (1, .int (nI cnt)), (2, .int (nI j))]) C.x C.b dX1_phase_119 hl (k := 3) rfl (nI_1 i) (by decide) rfl (fun ls hl => ?_)
        refine lv_goto (tgt := 70) C.x C.b dX1_phase_122 (by decide) ?_
        exact ih (i + 1) (g_up σ 8 i ((σ 8 i) + (σ 4 ((nx (σ 9 0)) * 9 + i)))) H locs ls (by omega) h9 G (lv_sub hl [1, 2, 3, 0] rfl) (fun H locs ls G hl => kk H locs ls (by rw [lp_s, show p_phv i σ = (g_up σ 8 i ((σ 8 i) + (σ 4 ((nx (σ 9 0)) * 9 + i)))) from by unfold p_phv; rw [if_neg c84, if_neg (not_not_intro c93)]]; exact G) hl)
set_option maxHeartbeats 2000000 in
theorem w_ph3 (C : g_C RX1 p s m args c cX1_phase 4 D dI dZ) (hn : n ≤ 9) (hA : ∀ q, H0.size ≤ q → A q) (hf : 0 + 1 ≤ R.frames) (hlo : 8 + (3 + 11) + 0 ≤ R.locals) {cnt : Nat} (hc : cnt ≤ 9) : ∀ (k i : Nat) (σ : g_St) (H : Heap) (locs : List Loc) (ls : Array Slot), i + k = cnt → g1_G D dI dZ A H0 h0 ad n σ H locs → lv_has ls 4 [(0, .ref h0), (1, .int (nI cnt)), (2, .int (nI i))] → (∀ (H : Heap) (locs : List Loc) (ls : Array Slot), g1_G D dI dZ A H0 h0 ad n (lp (p_phi n) k i σ) H locs → lv_has ls 4 [(0, .ref h0)] → W p l e R s m args below meth c H locs 0 0 Q (F0 m 131 ls [])) → W p l e R s m args below meth c H locs 0 0 Q (F0 m 37 ls []) := by
  intro k
  induction k with
  | zero =>
    intro i σ H locs ls hk G hl kk
    refine lv_iload_n C.x C.b dX1_phase_37 rfl (lv_at hl 2 rfl) ?_
    refine lv_iload_n C.x C.b dX1_phase_38 rfl (lv_at hl 1 rfl) ?_
    refine lv_icmp_ge (tgt := 131) C.x C.b dX1_phase_39 (by decide) (fun _ => ?_) (fun hq => absurd (nI_le (by omega) (by omega)) hq)
    exact kk H locs ls G (lv_sub hl [0] rfl)
  | succ k ih =>
    intro i σ H locs ls hk G hl kk
    refine lv_iload_n C.x C.b dX1_phase_37 rfl (lv_at hl 2 rfl) ?_
    refine lv_iload_n C.x C.b dX1_phase_38 rfl (lv_at hl 1 rfl) ?_
    refine lv_icmp_ge (tgt := 131) C.x C.b dX1_phase_39 (by decide) (fun hq => absurd hq (nI_ge (by omega) (by omega))) (fun _ => ?_)
    refine lv_aload_n C.x C.b dX1_phase_42 rfl (lv_at hl 0 rfl) ?_
    refine g1_f9 C G (lv_at hl 0 rfl) dX1_phase_43 dX1_phase_44 ?_
    refine g1_p10 C G dX1_phase_47 (fun H locs G => ?_)
    refine lv_aload_n C.x C.b dX1_phase_50 rfl (lv_at hl 0 rfl) ?_
    refine lv_aload_n C.x C.b dX1_phase_51 rfl (lv_at hl 0 rfl) ?_
    refine g_calli (As := []) (rest := [.ref h0]) C G hA (m1_mostHanging l D dI dZ h0 ad n hn (g_up σ 10 0 (σ 9 0))) (cw11_mostHanging C.t hf hlo) rfl ⟨0, _, _, rfl, rfl, rfl⟩ hl.1 (Nat.le_of_ble_eq_true rfl) rfl dX1_phase_52 (fun r σ1 H locs hw G => ?_)
    obtain ⟨rfl, rfl⟩ := hw
    have hm : g_in 9 (p_mh n (g_up σ 10 0 (σ 9 0))) := p_mh_in hn
    have hm1 := hm.lt
    refine g1_p9 C G dX1_phase_55 (fun H locs G => ?_)
    refine g1_f7 C G (lv_at hl 0 rfl) dX1_phase_58 dX1_phase_59 ?_
    refine g1_f9 C G (lv_at hl 0 rfl) dX1_phase_62 dX1_phase_63 ?_
    refine lv_iconst (v := 1) C.x C.b dX1_phase_66 (by decide) ?_
    refine g1_s7 C G (nx (p_mh n (g_up σ 10 0 (σ 9 0)))) (by omega) hm.e g_z1 dX1_phase_67 (fun H locs G => ?_)
    refine lv_iconst (v := (nI 0)) C.x C.b dX1_phase_68 (by decide) ?_
    refine lv_istore_n (lv' := [(3, .int (nI 0)), (0, .ref h0), (1, .int (nI cnt)), (2, .int (nI i))]) C.x C.b dX1_phase_69 rfl hl (by decide) rfl (fun ls hl => ?_)
    refine w_ph2 C hn n 0 (p_phm n σ) H locs ls (by omega) hm G (lv_sub hl [1, 2, 3, 0] rfl) (fun H locs ls G hl => ?_)
    refine lv_iinc (v := (nI (i + 1))) (lv' := [(2, .int (nI (i + 1))), (0, .ref h0), (1, .int (nI cnt))]) C.x C.b dX1_phase_125 hl (k := 2) rfl (nI_1 i) (by decide) rfl (fun ls hl => ?_)
    refine lv_goto (tgt := 37) C.x C.b dX1_phase_128 (by decide) ?_
    exact ih (i + 1) (p_phi n i σ) H locs ls (by omega) G (lv_sub hl [1, 2, 0] rfl) kk
set_option maxHeartbeats 2000000 in
theorem m1_phase (l : Launch) (D : va_G) (dI dZ : ClassId) (h0 : Nat) (ad : Nat → Nat) (n : Nat) (hn : n ≤ 9) (σ : g_St) (cnt : Nat) (hc1 : 1 ≤ cnt) (hc9 : cnt ≤ 9) : g_Mi l D dI dZ (g1_w dI dZ h0 ad n) h0 yX1_phase cX1_phase 4 .int 1 22 [.int (nI cnt)] σ (fun r τ => r = p_ph n cnt σ 8 (nx (p_ph n cnt σ 9 0)) ∧ τ = p_ph n cnt σ) := by
  refine g_starti (own := RX1) (by decide +kernel) rfl (Nat.le_of_ble_eq_true rfl) ?_
  intro p e s m below meth c A ls hr hlk hA C G hl
  replace hl : lv_has ls 4 [(0, .ref h0), (1, .int (nI cnt))] := hl
  refine lv_iconst (v := (nI 0)) C.x C.b dX1_phase_0 (by decide) ?_
  refine lv_istore_n (lv' := [(2, .int (nI 0)), (0, .ref h0), (1, .int (nI cnt))]) C.x C.b dX1_phase_1 rfl hl (by decide) rfl (fun ls hl => ?_)
  refine w_ph1 C hn n 0 σ _ _ _ (by omega) G (lv_sub hl [1, 2, 0] rfl) (fun H locs ls G hl => ?_)
  refine lv_aload_n C.x C.b dX1_phase_30 rfl (lv_at hl 0 rfl) ?_
  refine lv_iconst (v := (-1)) C.x C.b dX1_phase_31 (by decide) ?_
  refine g1_p9 C G dX1_phase_32 (fun H locs G => ?_)
  refine lv_iconst (v := (nI 0)) C.x C.b dX1_phase_35 (by decide) ?_
  refine lv_istore_n (lv' := [(2, .int (nI 0)), (0, .ref h0), (1, .int (nI cnt))]) C.x C.b dX1_phase_36 rfl hl (by decide) rfl (fun ls hl => ?_)
  refine w_ph3 C hn hA (by decide) (by decide) hc9 cnt 0 _ _ _ _ (by omega) G (lv_sub hl [1, 2, 0] rfl) (fun H locs ls G hl => ?_)
  replace G : g1_G D dI dZ A s.heap h0 ad n (p_ph n cnt σ) H locs := G
  have h9 := (p_ph_in (n := n) (cnt := cnt) (σ := σ) hn).1 hc1
  have h91 := h9.lt
  refine g1_f8 C G (lv_at hl 0 rfl) dX1_phase_131 dX1_phase_132 ?_
  refine g1_f9 C G (lv_at hl 0 rfl) dX1_phase_135 dX1_phase_136 ?_
  refine g1_l8 C G (nx ((p_ph n cnt σ) 9 0)) (by omega) h9.e dX1_phase_139 ?_
  exact g_iret C G hr hlk ⟨rfl, rfl⟩ dX1_phase_140
set_option maxHeartbeats 2000000 in
theorem w_mt (C : g_C RX1 p s m args c cX1_mergeLastTwo 2 D dI dZ) (hn : n ≤ 9) : ∀ (k i : Nat) (σ : g_St) (H : Heap) (locs : List Loc) (ls : Array Slot), i + k = n → g_in 9 (σ 9 0) → g_in 9 (σ 10 0) → g1_G D dI dZ A H0 h0 ad n σ H locs → lv_has ls 2 [(0, .ref h0), (1, .int (nI i))] → (∀ (H : Heap) (locs : List Loc) (ls : Array Slot), g1_G D dI dZ A H0 h0 ad n (lp p_mtf k i σ) H locs → lv_has ls 2 [(0, .ref h0)] → W p l e R s m args below meth c H locs 0 0 Q (F0 m 75 ls [])) → W p l e R s m args below meth c H locs 0 0 Q (F0 m 2 ls []) := by
  intro k
  induction k with
  | zero =>
    intro i σ H locs ls hk h9 h10 G hl kk
    refine lv_iload_n C.x C.b dX1_mergeLastTwo_2 rfl (lv_at hl 1 rfl) ?_
    refine g1_f0 C G (lv_at hl 0 rfl) dX1_mergeLastTwo_3 dX1_mergeLastTwo_4 ?_
    refine lv_icmp_ge (tgt := 75) C.x C.b dX1_mergeLastTwo_7 (by decide) (fun _ => ?_) (fun hq => absurd (nI_le (by omega) (by omega)) hq)
    exact kk H locs ls G (lv_sub hl [0] rfl)
  | succ k ih =>
    intro i σ H locs ls hk h9 h10 G hl kk
    refine lv_iload_n C.x C.b dX1_mergeLastTwo_2 rfl (lv_at hl 1 rfl) ?_
    refine g1_f0 C G (lv_at hl 0 rfl) dX1_mergeLastTwo_3 dX1_mergeLastTwo_4 ?_
    refine lv_icmp_ge (tgt := 75) C.x C.b dX1_mergeLastTwo_7 (by decide) (fun hq => absurd hq (nI_ge (by omega) (by omega))) (fun _ => ?_)
    have h91 := h9.lt
    have h101 := h10.lt
    refine g1_f4 C G (lv_at hl 0 rfl) dX1_mergeLastTwo_10 dX1_mergeLastTwo_11 ?_
    refine g1_f10 C G (lv_at hl 0 rfl) dX1_mergeLastTwo_14 dX1_mergeLastTwo_15 ?_
    refine lv_bipush (v := 9) C.x C.b dX1_mergeLastTwo_18 (by decide) ?_
    refine lv_imul C.x C.b dX1_mergeLastTwo_20 ?_
    refine lv_iload_n C.x C.b dX1_mergeLastTwo_21 rfl (lv_at hl 1 rfl) ?_
    refine lv_iadd C.x C.b dX1_mergeLastTwo_22 ?_
    refine lv_dup2_11 C.x C.b dX1_mergeLastTwo_23 rfl rfl ?_
    refine g1_l4 C G ((nx (σ 10 0)) * 9 + i) (by omega) (g_ixx h10.e rfl) dX1_mergeLastTwo_24 ?_
    refine g1_f4 C G (lv_at hl 0 rfl) dX1_mergeLastTwo_25 dX1_mergeLastTwo_26 ?_
    refine g1_f9 C G (lv_at hl 0 rfl) dX1_mergeLastTwo_29 dX1_mergeLastTwo_30 ?_
    refine lv_bipush (v := 9) C.x C.b dX1_mergeLastTwo_33 (by decide) ?_
    refine lv_imul C.x C.b dX1_mergeLastTwo_35 ?_
    refine lv_iload_n C.x C.b dX1_mergeLastTwo_36 rfl (lv_at hl 1 rfl) ?_
    refine lv_iadd C.x C.b dX1_mergeLastTwo_37 ?_
    refine g1_l4 C G ((nx (σ 9 0)) * 9 + i) (by omega) (g_ixx h9.e rfl) dX1_mergeLastTwo_38 ?_
    refine lv_iadd C.x C.b dX1_mergeLastTwo_39 ?_
    refine g1_s4 C G ((nx (σ 10 0)) * 9 + i) (by omega) (g_ixx h10.e rfl) dX1_mergeLastTwo_40 (fun H locs G => ?_)
    replace G : g1_G D dI dZ A H0 h0 ad n (p_mt1 i σ) H locs := G
    replace h10 : g_in 9 ((p_mt1 i σ) 10 0) := h10
    replace h101 := h10.lt
    refine g1_f4 C G (lv_at hl 0 rfl) dX1_mergeLastTwo_41 dX1_mergeLastTwo_42 ?_
    refine lv_iload_n C.x C.b dX1_mergeLastTwo_45 rfl (lv_at hl 1 rfl) ?_
    refine lv_bipush (v := 9) C.x C.b dX1_mergeLastTwo_46 (by decide) ?_
    refine lv_imul C.x C.b dX1_mergeLastTwo_48 ?_
    refine g1_f10 C G (lv_at hl 0 rfl) dX1_mergeLastTwo_49 dX1_mergeLastTwo_50 ?_
    refine lv_iadd C.x C.b dX1_mergeLastTwo_53 ?_
    refine g1_f4 C G (lv_at hl 0 rfl) dX1_mergeLastTwo_54 dX1_mergeLastTwo_55 ?_
    refine g1_f10 C G (lv_at hl 0 rfl) dX1_mergeLastTwo_58 dX1_mergeLastTwo_59 ?_
    refine lv_bipush (v := 9) C.x C.b dX1_mergeLastTwo_62 (by decide) ?_
    refine lv_imul C.x C.b dX1_mergeLastTwo_64 ?_
    refine lv_iload_n C.x C.b dX1_mergeLastTwo_65 rfl (lv_at hl 1 rfl) ?_
    refine lv_iadd C.x C.b dX1_mergeLastTwo_66 ?_
    refine g1_l4 C G ((nx ((p_mt1 i σ) 10 0)) * 9 + i) (by omega) (g_ixx h10.e rfl) dX1_mergeLastTwo_67 ?_
    refine g1_s4 C G (i * 9 + (nx ((p_mt1 i σ) 10 0))) (by omega) (g_ixx rfl h10.e) dX1_mergeLastTwo_68 (fun H locs G => ?_)
    refine lv_iinc (v := (nI (i + 1))) (lv' := [(1, .int (nI (i + 1))), (0, .ref h0)]) C.x C.b dX1_mergeLastTwo_69 hl (k := 1) rfl (nI_1 i) (by decide) rfl (fun ls hl => ?_)
    refine lv_goto (tgt := 2) C.x C.b dX1_mergeLastTwo_72 (by decide) ?_
    exact ih (i + 1) (p_mtf i σ) H locs ls (by omega) h9 h10 G (lv_sub hl [1, 0] rfl) kk
set_option maxHeartbeats 2000000 in
theorem m1_mergeLastTwo (l : Launch) (D : va_G) (dI dZ : ClassId) (h0 : Nat) (ad : Nat → Nat) (n : Nat) (hn : n ≤ 9) (σ : g_St) (h9 : g_in 9 (σ 9 0)) (h10 : g_in 9 (σ 10 0)) : g_Mv l D dI dZ (g1_w dI dZ h0 ad n) h0 yX1_mergeLastTwo cX1_mergeLastTwo 2 0 0 [] σ (fun τ => τ = p_mt n σ) := by
  refine g_startv (own := RX1) (by decide +kernel) rfl (Nat.le_of_ble_eq_true rfl) ?_
  intro p e s m below meth c A ls hr hlk hA C G hl
  replace hl : lv_has ls 2 [(0, .ref h0)] := hl
  refine lv_iconst (v := (nI 0)) C.x C.b dX1_mergeLastTwo_0 (by decide) ?_
  refine lv_istore_n (lv' := [(1, .int (nI 0)), (0, .ref h0)]) C.x C.b dX1_mergeLastTwo_1 rfl hl (by decide) rfl (fun ls hl => ?_)
  refine w_mt C hn n 0 σ _ _ _ (by omega) h9 h10 G (lv_sub hl [1, 0] rfl) (fun H locs ls G hl => ?_)
  have h9 : g_in 9 ((lp p_mtf n 0 σ) 9 0) := by rw [lp_keep (fun i s => p_mtf_k (by decide) i s)]; exact h9
  have h91 := h9.lt
  have h10 : g_in 9 ((lp p_mtf n 0 σ) 10 0) := by rw [lp_keep (fun i s => p_mtf_k (by decide) i s)]; exact h10
  have h101 := h10.lt
  refine g1_f4 C G (lv_at hl 0 rfl) dX1_mergeLastTwo_75 dX1_mergeLastTwo_76 ?_
  refine g1_f10 C G (lv_at hl 0 rfl) dX1_mergeLastTwo_79 dX1_mergeLastTwo_80 ?_
  refine lv_bipush (v := 9) C.x C.b dX1_mergeLastTwo_83 (by decide) ?_
  refine lv_imul C.x C.b dX1_mergeLastTwo_85 ?_
  refine g1_f10 C G (lv_at hl 0 rfl) dX1_mergeLastTwo_86 dX1_mergeLastTwo_87 ?_
  refine lv_iadd C.x C.b dX1_mergeLastTwo_90 ?_
  refine lv_iconst (v := 0) C.x C.b dX1_mergeLastTwo_91 (by decide) ?_
  refine g1_s4 C G ((nx ((lp p_mtf n 0 σ) 10 0)) * 9 + (nx ((lp p_mtf n 0 σ) 10 0))) (by omega) (g_ixx h10.e h10.e) dX1_mergeLastTwo_92 (fun H locs G => ?_)
  refine g1_f6 C G (lv_at hl 0 rfl) dX1_mergeLastTwo_93 dX1_mergeLastTwo_94 ?_
  refine g1_f9 C G (lv_at hl 0 rfl) dX1_mergeLastTwo_97 dX1_mergeLastTwo_98 ?_
  refine lv_iconst (v := 0) C.x C.b dX1_mergeLastTwo_101 (by decide) ?_
  refine g1_s6 C G (nx ((lp p_mtf n 0 σ) 9 0)) (by omega) h9.e g_z0 dX1_mergeLastTwo_102 (fun H locs G => ?_)
  exact g_vret C G hr hlk rfl dX1_mergeLastTwo_103
set_option maxHeartbeats 2000000 in
theorem w_lg (C : g_C RX1 p s m args c cX1_leastOfGroups 4 D dI dZ) (hn : n ≤ 9) (hA : ∀ q, H0.size ≤ q → A q) (hf : 1 + 1 ≤ R.frames) (hlo : 8 + (4 + 11) + 22 ≤ R.locals) (hf2 : 0 + 1 ≤ R.frames) (hlo2 : 8 + (2 + 11) + 0 ≤ R.locals) : ∀ (k i : Nat) (q : Int32 × g_St) (H : Heap) (locs : List Loc) (ls : Array Slot), k + 1 ≤ 9 → g1_G D dI dZ A H0 h0 ad n q.2 H locs → lv_has ls 4 [(0, .ref h0), (1, .int q.1), (2, .int (nI (k + 1)))] → (∀ (H : Heap) (locs : List Loc) (ls : Array Slot), g1_G D dI dZ A H0 h0 ad n (p_lgr n k q).2 H locs → lv_has ls 4 [(0, .ref h0), (1, .int ((p_lgr n k q).1))] → W p l e R s m args below meth c H locs 0 0 Q (F0 m 47 ls [])) → W p l e R s m args below meth c H locs 0 0 Q (F0 m 19 ls []) := by
  intro k
  induction k with
  | zero =>
    intro i q H locs ls hk G hl kk
    refine lv_iload_n C.x C.b dX1_leastOfGroups_19 rfl (lv_at hl 2 rfl) ?_
    refine lv_iconst (v := 2) C.x C.b dX1_leastOfGroups_20 (by decide) ?_
    refine lv_icmp_lt (tgt := 47) C.x C.b dX1_leastOfGroups_21 (by decide) (fun _ => ?_) (fun hq => absurd (by decide) hq)
    exact kk H locs ls G (lv_sub hl [0, 1] rfl)
  | succ k ih =>
    intro i q H locs ls hk G hl kk
    refine lv_iload_n C.x C.b dX1_leastOfGroups_19 rfl (lv_at hl 2 rfl) ?_
    refine lv_iconst (v := (nI 2)) C.x C.b dX1_leastOfGroups_20 (by decide) ?_
    refine lv_icmp_lt (tgt := 47) C.x C.b dX1_leastOfGroups_21 (by decide) (fun hq => absurd hq (nI_nlt (by omega) (by omega))) (fun _ => ?_)
    refine lv_aload_n C.x C.b dX1_leastOfGroups_24 rfl (lv_at hl 0 rfl) ?_
    refine lv_iload_n C.x C.b dX1_leastOfGroups_25 rfl (lv_at hl 2 rfl) ?_
    refine g_calli (As := [.int (nI (k + 1 + 1))]) (rest := []) C G hA (m1_phase l D dI dZ h0 ad n hn q.2 (k + 1 + 1) (by omega) (by omega)) (cw11_phase C.t hf hlo) rfl ⟨0, _, _, rfl, rfl, rfl⟩ hl.1 (Nat.le_of_ble_eq_true rfl) rfl dX1_leastOfGroups_26 (fun r σ1 H locs hw G => ?_)
    obtain ⟨rfl, rfl⟩ := hw
    refine lv_istore_n (lv' := [(3, .int (p_ph n (k + 1 + 1) q.2 8 (nx (p_ph n (k + 1 + 1) q.2 9 0)))), (0, .ref h0), (1, .int q.1), (2, .int (nI (k + 1 + 1)))]) C.x C.b dX1_leastOfGroups_29 rfl hl (by decide) rfl (fun ls hl => ?_)
    refine lv_iload_n C.x C.b dX1_leastOfGroups_30 rfl (lv_at hl 0 rfl) ?_
    refine lv_iload_n C.x C.b dX1_leastOfGroups_31 rfl (lv_at hl 2 rfl) ?_
    refine lv_icmp_ge (tgt := 37) C.x C.b dX1_leastOfGroups_32 (by decide) (fun c32 => ?_) (fun c32 => ?_)
    · refine lv_aload_n C.x C.b dX1_leastOfGroups_37 rfl (lv_at hl 1 rfl) ?_
      refine g_callv (As := []) (rest := []) C G hA (m1_mergeLastTwo l D dI dZ h0 ad n hn (p_ph n (k + 1 + 1) q.2) ((p_ph_in hn).1 (by omega)) ((p_ph_in hn).2 (by omega))) (cw11_mergeLastTwo C.t hf2 hlo2) rfl ⟨0, _, _, rfl, rfl, rfl⟩ hl.1 (Nat.le_of_ble_eq_true rfl) rfl dX1_leastOfGroups_38 (fun σ1 H locs hw G => ?_)
      have hw : σ1 = p_mt n (p_ph n (k + 1 + 1) q.2) := hw
      subst hw
      refine lv_iinc (v := (nI (k + 1))) (lv' := [(2, .int (nI (k + 1))), (3, .int (p_ph n (k + 1 + 1) q.2 8 (nx (p_ph n (k + 1 + 1) q.2 9 0)))), (0, .ref h0), (1, .int q.1)]) C.x C.b dX1_leastOfGroups_41 hl (k := 3) rfl (pk_m1 (k + 1)) (by decide) rfl (fun ls hl => ?_)
      refine lv_goto (tgt := 19) C.x C.b dX1_leastOfGroups_44 (by decide) ?_
      refine ih 0 (q.1, p_mt n (p_ph n (k + 1 + 1) q.2)) H locs ls (by omega) G (lv_sub hl [2, 3, 0] rfl) (fun H locs ls G hl => ?_)
      have eq : p_lgs n (k + 1 + 1) q = (q.1, p_mt n (p_ph n (k + 1 + 1) q.2)) := by unfold p_lgs; rw [if_pos c32]
      rw [← eq] at G hl
      exact kk H locs ls G hl
    · refine lv_iload_n C.x C.b dX1_leastOfGroups_35 rfl (lv_at hl 0 rfl) ?_
      refine lv_istore_n (lv' := [(1, .int (p_ph n (k + 1 + 1) q.2 8 (nx (p_ph n (k + 1 + 1) q.2 9 0)))), (3, .int (p_ph n (k + 1 + 1) q.2 8 (nx (p_ph n (k + 1 + 1) q.2 9 0)))), (0, .ref h0), (2, .int (nI (k + 1 + 1)))]) C.x C.b dX1_leastOfGroups_36 rfl hl (by decide) rfl (fun ls hl => ?_)
      refine lv_aload_n C.x C.b dX1_leastOfGroups_37 rfl (lv_at hl 2 rfl) ?_
      refine g_callv (As := []) (rest := []) C G hA (m1_mergeLastTwo l D dI dZ h0 ad n hn (p_ph n (k + 1 + 1) q.2) ((p_ph_in hn).1 (by omega)) ((p_ph_in hn).2 (by omega))) (cw11_mergeLastTwo C.t hf2 hlo2) rfl ⟨0, _, _, rfl, rfl, rfl⟩ hl.1 (Nat.le_of_ble_eq_true rfl) rfl dX1_leastOfGroups_38 (fun σ1 H locs hw G => ?_)
      have hw : σ1 = p_mt n (p_ph n (k + 1 + 1) q.2) := hw
      subst hw
      refine lv_iinc (v := (nI (k + 1))) (lv' := [(2, .int (nI (k + 1))), (1, .int (p_ph n (k + 1 + 1) q.2 8 (nx (p_ph n (k + 1 + 1) q.2 9 0)))), (3, .int (p_ph n (k + 1 + 1) q.2 8 (nx (p_ph n (k + 1 + 1) q.2 9 0)))), (0, .ref h0)]) C.x C.b dX1_leastOfGroups_41 hl (k := 3) rfl (pk_m1 (k + 1)) (by decide) rfl (fun ls hl => ?_)
      refine lv_goto (tgt := 19) C.x C.b dX1_leastOfGroups_44 (by decide) ?_
      refine ih 0 ((p_ph n (k + 1 + 1) q.2 8 (nx (p_ph n (k + 1 + 1) q.2 9 0))), p_mt n (p_ph n (k + 1 + 1) q.2)) H locs ls (by omega) G (lv_sub hl [3, 1, 0] rfl) (fun H locs ls G hl => ?_)
      have eq : p_lgs n (k + 1 + 1) q = ((p_ph n (k + 1 + 1) q.2 8 (nx (p_ph n (k + 1 + 1) q.2 9 0))), p_mt n (p_ph n (k + 1 + 1) q.2)) := by unfold p_lgs; rw [if_neg c32]
      rw [← eq] at G hl
      exact kk H locs ls G hl
set_option maxHeartbeats 2000000 in
theorem m1_leastOfGroups (l : Launch) (D : va_G) (dI dZ : ClassId) (h0 : Nat) (ad : Nat → Nat) (n : Nat) (hn : n ≤ 9) (σ : g_St) (hg : g_in 10 (σ 5 0)) : g_Mi l D dI dZ (g1_w dI dZ h0 ad n) h0 yX1_leastOfGroups cX1_leastOfGroups 4 .int 2 45 [] σ (fun r τ => r = (p_lg n σ).1 ∧ τ = (p_lg n σ).2) := by
  refine g_starti (own := RX1) (by decide +kernel) rfl (Nat.le_of_ble_eq_true rfl) ?_
  intro p e s m below meth c A ls hr hlk hA C G hl
  replace hl : lv_has ls 4 [(0, .ref h0)] := hl
  refine g1_f5 C G (lv_at hl 0 rfl) dX1_leastOfGroups_0 dX1_leastOfGroups_1 ?_
  refine lv_iconst (v := 2) C.x C.b dX1_leastOfGroups_4 (by decide) ?_
  refine lv_icmp_ge (tgt := 11) C.x C.b dX1_leastOfGroups_5 (by decide) (fun c5 => ?_) (fun c5 => ?_)
  · refine lv_ldc C.x C.b C.o (C.t _ q109) dX1_leastOfGroups_11 ?_
    refine lv_istore_n (lv' := [(1, .int 1000000), (0, .ref h0)]) C.x C.b dX1_leastOfGroups_13 rfl hl (by decide) rfl (fun ls hl => ?_)
    refine g1_f5 C G (lv_at hl 1 rfl) dX1_leastOfGroups_14 dX1_leastOfGroups_15 ?_
    refine lv_istore_n (lv' := [(2, .int (σ 5 0)), (1, .int 1000000), (0, .ref h0)]) C.x C.b dX1_leastOfGroups_18 rfl hl (by decide) rfl (fun ls hl => ?_)
    have e1 : σ 5 0 = nI (nx (σ 5 0) - 1 + 1) := by
      obtain ⟨g, hg1, hg2⟩ := hg
      rw [hg2] at c5 ⊢
      have h2 : 2 ≤ g := (nI_leI (a := 2) (by decide) (by omega)).mp c5
      rw [nx_nI (by omega), show g - 1 + 1 = g by omega]
    have h1 := hg.lt
    have hl : lv_has ls 4 [(0, .ref h0), (1, .int 1000000), (2, .int (nI (nx (σ 5 0) - 1 + 1)))] := by rw [← e1]; exact (lv_sub hl [2, 1, 0] rfl)
    refine w_lg C hn hA (by decide) (by decide) (by decide) (by decide) (nx (σ 5 0) - 1) 0 (1000000, σ) _ _ _ (by omega) G hl (fun H locs ls G hl => ?_)
    refine lv_iload_n C.x C.b dX1_leastOfGroups_47 rfl (lv_at hl 1 rfl) ?_
    exact g_iret C G hr hlk ⟨by unfold p_lg; rw [if_pos c5], by unfold p_lg; rw [if_pos c5]⟩ dX1_leastOfGroups_48
  · refine lv_bipush (v := (-3)) C.x C.b dX1_leastOfGroups_8 (by decide) ?_
    exact g_iret C G hr hlk ⟨by unfold p_lg; rw [if_neg c5], by unfold p_lg; rw [if_neg c5]⟩ dX1_leastOfGroups_10
end W2
end
section
/-! findWay: what holds all through it -/
set_option maxRecDepth 100000
/-- how many of the first m are negative -/
def g_cn (f : Nat → Int32) : Nat → Nat
  | 0 => 0
  | m + 1 => g_cn f m + (if 0 ≤ f m then 0 else 1)
theorem g_cn_congr {f g : Nat → Int32} : ∀ m, (∀ j, j < m → f j = g j) → g_cn f m = g_cn g m := by
  intro m
  induction m with
  | zero => intro _; rfl
  | succ m ih =>
    intro h
    show g_cn f m + _ = g_cn g m + _
    rw [ih (fun j hj => h j (by omega)), h m (by omega)]
theorem g_cn_all {f : Nat → Int32} : ∀ m, g_cn f m ≤ m := by
  intro m
  induction m with
  | zero => exact Nat.le_refl _
  | succ m ih =>
    show g_cn f m + _ ≤ _
    split <;> omega
theorem g_cn_upd {f : Nat → Int32} {v : Nat} {u : Int32} (h1 : ¬ 0 ≤ f v) (h2 : 0 ≤ u) : ∀ m, v < m → g_cn (upd f v u) m + 1 = g_cn f m := by
  intro m
  induction m with
  | zero => intro h; omega
  | succ m ih =>
    intro h
    show g_cn (upd f v u) m + _ + 1 = g_cn f m + _
    by_cases e : v = m
    · subst e
      rw [g_cn_congr (f := upd f v u) (g := f) v (fun j hj => if_neg (by omega)), if_neg h1, if_pos (show 0 ≤ upd f v u v by rw [show upd f v u v = u from if_pos rfl]; exact h2)]
    · have := ih (by omega)
      rw [show upd f v u m = f m from if_neg (by omega)]
      omega
def g_rc (n : Nat) (σ : g_St) (v : Int32) : Prop := ∃ a : Nat, a < n ∧ v = nI a ∧ 0 ≤ σ 12 a
def g_cl (n : Nat) (σ : g_St) : Prop := ∀ a : Nat, a < n → 0 ≤ σ 12 a → g_rc n σ (σ 12 a)
theorem g_rc.in {n : Nat} {σ : g_St} {v : Int32} (h : g_rc n σ v) : g_in n v := by
  obtain ⟨a, h1, h2, -⟩ := h
  exact ⟨a, h1, h2⟩
theorem g_rc.next {n : Nat} {σ : g_St} {v : Int32} (hn : n ≤ 9) (hc : g_cl n σ) (h : g_rc n σ v) : g_rc n σ (σ 12 (nx v)) := by
  obtain ⟨a, h1, rfl, h3⟩ := h
  rw [nx_nI (by omega)]
  exact hc a h1 h3
def g_J (n : Nat) (q : Nat × g_St) : Prop := q.1 + g_cn (q.2 12) n ≤ n ∧ (∀ i, i < q.1 → g_rc n q.2 (q.2 13 i)) ∧ g_cl n q.2
theorem g_J.room {n v : Nat} {q : Nat × g_St} (h : g_J n q) (hv : v < n) (h1 : ¬ 0 ≤ q.2 12 v) : q.1 < n := by
  have e := g_cn_upd (f := q.2 12) (v := v) (u := 0) h1 (by decide) n hv
  have := h.1
  omega
theorem p_fwv_J {n : Nat} (hn : n ≤ 9) {u : Int32} {v : Nat} {q : Nat × g_St} (hv : v < n) (h : g_J n q) (hu : g_rc n q.2 u) : g_J n (p_fwv u v q) ∧ g_rc n (p_fwv u v q).2 u := by
  unfold p_fwv; split
  · exact ⟨h, hu⟩
  · rename_i h1
    split
    · exact ⟨h, hu⟩
    · have hu0 : 0 ≤ u := by
        obtain ⟨a, h2, rfl, -⟩ := hu
        exact nI_pos' (by omega)
      have mono : ∀ x, g_rc n q.2 x → g_rc n (g_up (g_up q.2 12 v u) 13 q.1 (nI v)) x := by
        intro x ⟨a, h2, h3, h4⟩
        refine ⟨a, h2, h3, ?_⟩
        show 0 ≤ upd (q.2 12) v u a
        by_cases e : a = v
        · rw [show upd (q.2 12) v u a = u from if_pos e]; exact hu0
        · rw [show upd (q.2 12) v u a = q.2 12 a from if_neg e]; exact h4
      refine ⟨⟨?_, ?_, ?_⟩, mono u hu⟩
      · show q.1 + 1 + g_cn (upd (q.2 12) v u) n ≤ n
        have := g_cn_upd (f := q.2 12) (v := v) (u := u) h1 hu0 n hv
        have := h.1
        omega
      · intro i hi
        show g_rc n _ (upd (q.2 13) q.1 (nI v) i)
        by_cases e : i = q.1
        · rw [show upd (q.2 13) q.1 (nI v) i = nI v from if_pos e]
          exact ⟨v, hv, rfl, by show 0 ≤ upd (q.2 12) v u v; rw [show upd (q.2 12) v u v = u from if_pos rfl]; exact hu0⟩
        · rw [show upd (q.2 13) q.1 (nI v) i = q.2 13 i from if_neg e]
          exact mono _ (h.2.1 i (by have : i < q.1 + 1 := hi; omega))
      · intro a ha h0
        show g_rc n _ (upd (q.2 12) v u a)
        by_cases e : a = v
        · rw [show upd (q.2 12) v u a = u from if_pos e]
          exact mono u hu
        · rw [show upd (q.2 12) v u a = q.2 12 a from if_neg e]
          have h0' : 0 ≤ upd (q.2 12) v u a := h0
          rw [show upd (q.2 12) v u a = q.2 12 a from if_neg e] at h0'
          exact mono _ (h.2.2 a ha h0')
theorem p_fwo_J {n : Nat} (hn : n ≤ 9) {u : Int32} : ∀ (c i : Nat) (q : Nat × g_St), i + c ≤ n → g_J n q → g_rc n q.2 u → g_J n (lp (p_fwv u) c i q) ∧ g_rc n (lp (p_fwv u) c i q).2 u := by
  intro c
  induction c with
  | zero => intro i q _ h1 h2; exact ⟨h1, h2⟩
  | succ c ih =>
    intro i q hi h1 h2
    rw [lp_s]
    have := p_fwv_J hn (v := i) (by omega) h1 h2
    exact ih (i + 1) _ (by omega) this.1 this.2
theorem p_fwl_J {n : Nat} (hn : n ≤ 9) : ∀ (k i : Nat) (q : Nat × g_St), g_J n q → g_J n (p_fwl n k i q) := by
  intro k
  induction k with
  | zero => intro i q h; exact h
  | succ k ih =>
    intro i q h
    unfold p_fwl; split
    · exact h
    · rename_i h1
      exact ih (i + 1) _ (p_fwo_J hn n 0 q (by omega) h (h.2.1 i (by omega))).1
theorem p_fwz_at {n : Nat} {σ : g_St} : ∀ j, j < n → lp p_fwz n 0 σ 12 j = -1 := by
  have h := lp_ind (f := p_fwz) (fun i s => ∀ j, j < i → s 12 j = -1) n 0 σ (fun j h => by omega) (fun i s _ _ h j hj => by
    show upd (s 12) i (-1) j = -1
    by_cases e : j = i
    · exact if_pos e
    · rw [show upd (s 12) i (-1) j = s 12 j from if_neg e]; exact h j (by omega))
  rw [Nat.zero_add] at h
  exact h
theorem p_fw0_J {n : Nat} (hn : n ≤ 9) {s : Int32} {σ : g_St} (hs : g_in n s) : g_J n (1, p_fw0 n s σ) := by
  obtain ⟨a, ha, rfl⟩ := hs
  have hz := p_fwz_at (n := n) (σ := σ)
  have e12 : ∀ j, j < n → p_fw0 n (nI a) σ 12 j = if j = a then nI a else -1 := by
    intro j hj
    show upd (lp p_fwz n 0 σ 12) (nx (nI a)) (nI a) j = _
    rw [nx_nI (by omega)]
    by_cases e : j = a
    · rw [if_pos e]; exact if_pos e
    · rw [if_neg e, show upd (lp p_fwz n 0 σ 12) a (nI a) j = lp p_fwz n 0 σ 12 j from if_neg e]; exact hz j hj
  have hra : g_rc n (p_fw0 n (nI a) σ) (nI a) := ⟨a, ha, rfl, by rw [e12 a ha, if_pos rfl]; exact nI_pos' (by omega)⟩
  refine ⟨?_, ?_, ?_⟩
  · show 1 + g_cn (p_fw0 n (nI a) σ 12) n ≤ n
    have h1 := g_cn_upd (f := lp p_fwz n 0 σ 12) (v := a) (u := nI a) (by rw [hz a ha]; decide) (nI_pos' (by omega)) n ha
    have h2 := g_cn_all (f := lp p_fwz n 0 σ 12) n
    have h3 : g_cn (p_fw0 n (nI a) σ 12) n = g_cn (upd (lp p_fwz n 0 σ 12) a (nI a)) n := g_cn_congr n (fun j hj => by
      show upd (lp p_fwz n 0 σ 12) (nx (nI a)) (nI a) j = _
      rw [nx_nI (by omega)])
    omega
  · intro i hi
    have : i = 0 := by have : i < 1 := hi; omega
    subst this
    exact hra
  · intro j hj h0
    have h0' : 0 ≤ p_fw0 n (nI a) σ 12 j := h0
    show g_rc n _ (p_fw0 n (nI a) σ 12 j)
    rw [e12 j hj] at h0' ⊢
    by_cases e : j = a
    · rw [if_pos e]; exact hra
    · rw [if_neg e] at h0'; exact absurd h0' (by decide)
theorem p_fw_J {n : Nat} (hn : n ≤ 9) {s t : Int32} {σ : g_St} (hs : g_in n s) (ht : g_in n t) : g_cl n (p_fw n s t σ).2 ∧ (¬ (p_fw n s t σ).1 = 0 → g_rc n (p_fw n s t σ).2 t) := by
  have h := p_fwl_J hn 9 0 _ (p_fw0_J hn (σ := σ) hs)
  refine ⟨h.2.2, fun h1 => ?_⟩
  obtain ⟨b, hb, rfl⟩ := ht
  refine ⟨b, hb, rfl, ?_⟩
  have h2 : ¬ (if p_fws n s σ 12 (nx (nI b)) < 0 then (0 : Int32) else 1) = 0 := h1
  by_cases c : p_fws n s σ 12 (nx (nI b)) < 0
  · rw [if_pos c] at h2; exact absurd rfl h2
  · rw [nx_nI (by omega)] at c
    exact Int32.not_lt.mp c
end
section
set_option maxRecDepth 100000
section W3
variable {p : Program} {l : Launch} {e : Env} {R : Room} {s : State} {m : MethodId} {args : Array Value} {below : List Frame} {meth : Method} {c : Code} {Q : State → Prop} {D : va_G} {dI dZ : ClassId} {A : Nat → Prop} {H0 : Heap} {h0 : Nat} {ad : Nat → Nat} {n : Nat}
set_option maxHeartbeats 2000000 in
theorem w_fw1 (C : g_C RX1 p s m args c cX1_findWay 7 D dI dZ) (hn : n ≤ 9) {sv tv : Int32} : ∀ (k i : Nat) (σ : g_St) (H : Heap) (locs : List Loc) (ls : Array Slot), i + k = n → g1_G D dI dZ A H0 h0 ad n σ H locs → lv_has ls 7 [(0, .ref h0), (1, .int sv), (2, .int tv), (3, .int (nI i))] → (∀ (H : Heap) (locs : List Loc) (ls : Array Slot), g1_G D dI dZ A H0 h0 ad n (lp p_fwz k i σ) H locs → lv_has ls 7 [(0, .ref h0), (1, .int sv), (2, .int tv)] → W p l e R s m args below meth c H locs 0 0 Q (F0 m 23 ls [])) → W p l e R s m args below meth c H locs 0 0 Q (F0 m 2 ls []) := by
  intro k
  induction k with
  | zero =>
    intro i σ H locs ls hk G hl kk
    refine lv_iload_n C.x C.b dX1_findWay_2 rfl (lv_at hl 3 rfl) ?_
    refine g1_f0 C G (lv_at hl 0 rfl) dX1_findWay_3 dX1_findWay_4 ?_
    refine lv_icmp_ge (tgt := 23) C.x C.b dX1_findWay_7 (by decide) (fun _ => ?_) (fun hq => absurd (nI_le (by omega) (by omega)) hq)
    exact kk H locs ls G (lv_sub hl [0, 1, 2] rfl)
  | succ k ih =>
    intro i σ H locs ls hk G hl kk
    refine lv_iload_n C.x C.b dX1_findWay_2 rfl (lv_at hl 3 rfl) ?_
    refine g1_f0 C G (lv_at hl 0 rfl) dX1_findWay_3 dX1_findWay_4 ?_
    refine lv_icmp_ge (tgt := 23) C.x C.b dX1_findWay_7 (by decide) (fun hq => absurd hq (nI_ge (by omega) (by omega))) (fun _ => ?_)
    refine g1_f12 C G (lv_at hl 0 rfl) dX1_findWay_10 dX1_findWay_11 ?_
    refine lv_iload_n C.x C.b dX1_findWay_14 rfl (lv_at hl 3 rfl) ?_
    refine lv_iconst (v := (-1)) C.x C.b dX1_findWay_15 (by decide) ?_
    refine g1_s12 C G i (by omega) rfl dX1_findWay_16 (fun H locs G => ?_)
    refine lv_iinc (v := (nI (i + 1))) (lv' := [(3, .int (nI (i + 1))), (0, .ref h0), (1, .int sv), (2, .int tv)]) C.x C.b dX1_findWay_17 hl (k := 3) rfl (nI_1 i) (by decide) rfl (fun ls hl => ?_)
    refine lv_goto (tgt := 2) C.x C.b dX1_findWay_20 (by decide) ?_
    exact ih (i + 1) _ H locs ls (by omega) G (lv_sub hl [1, 2, 3, 0] rfl) kk
set_option maxHeartbeats 2000000 in
theorem w_fw2 (C : g_C RX1 p s m args c cX1_findWay 7 D dI dZ) (hn : n ≤ 9) {tv u : Int32} {j : Nat} : ∀ (k i : Nat) (q : Nat × g_St) (H : Heap) (locs : List Loc) (ls : Array Slot), i + k = n → g_J n q → g_rc n q.2 u → g1_G D dI dZ A H0 h0 ad n q.2 H locs → lv_has ls 7 [(0, .ref h0), (2, .int tv), (3, .int (nI q.1)), (4, .int (nI j)), (5, .int u), (6, .int (nI i))] → (∀ (H : Heap) (locs : List Loc) (ls : Array Slot), g1_G D dI dZ A H0 h0 ad n (lp (p_fwv u) k i q).2 H locs → lv_has ls 7 [(0, .ref h0), (2, .int tv), (3, .int (nI ((lp (p_fwv u) k i q).1))), (4, .int (nI j))] → W p l e R s m args below meth c H locs 0 0 Q (F0 m 128 ls [])) → W p l e R s m args below meth c H locs 0 0 Q (F0 m 67 ls []) := by
  intro k
  induction k with
  | zero =>
    intro i q H locs ls hk hJ hu G hl kk
    refine lv_iload C.x C.b dX1_findWay_67 (lv_at hl 5 rfl) ?_
    refine g1_f0 C G (lv_at hl 0 rfl) dX1_findWay_69 dX1_findWay_70 ?_
    refine lv_icmp_ge (tgt := 128) C.x C.b dX1_findWay_73 (by decide) (fun _ => ?_) (fun hq => absurd (nI_le (by omega) (by omega)) hq)
    exact kk H locs ls G (lv_sub hl [0, 1, 2, 3] rfl)
  | succ k ih =>
    intro i q H locs ls hk hJ hu G hl kk
    refine lv_iload C.x C.b dX1_findWay_67 (lv_at hl 5 rfl) ?_
    refine g1_f0 C G (lv_at hl 0 rfl) dX1_findWay_69 dX1_findWay_70 ?_
    refine lv_icmp_ge (tgt := 128) C.x C.b dX1_findWay_73 (by decide) (fun hq => absurd hq (nI_ge (by omega) (by omega))) (fun _ => ?_)
    have hu1 := hu.in.mono hn
    have hu2 := hu1.lt
    have hJ1 := p_fwv_J hn (v := i) (by omega) hJ hu
    refine g1_f12 C G (lv_at hl 0 rfl) dX1_findWay_76 dX1_findWay_77 ?_
    refine lv_iload C.x C.b dX1_findWay_80 (lv_at hl 5 rfl) ?_
    refine g1_l12 C G i (by omega) rfl dX1_findWay_82 ?_
    refine lv_if_ge (tgt := 122) C.x C.b dX1_findWay_83 (by decide) (fun c83 => ?_) (fun c83 => ?_)
    · refine lv_iinc (v := (nI (i + 1))) (lv' := [(6, .int (nI (i + 1))), (0, .ref h0), (2, .int tv), (3, .int (nI q.1)), (4, .int (nI j)), (5, .int u)]) C.x C.b dX1_findWay_122 hl (k := 5) rfl (nI_1 i) (by decide) rfl (fun ls hl => ?_)
      refine lv_goto (tgt := 67) C.x C.b dX1_findWay_125 (by decide) ?_
      have eq : p_fwv u i q = q := by unfold p_fwv; rw [if_pos c83]
      rw [eq] at hJ1
      refine ih (i + 1) q H locs ls (by omega) hJ1.1 hJ1.2 G (lv_sub hl [1, 2, 3, 4, 5, 0] rfl) (fun H locs ls G hl => ?_)
      rw [← eq, ← lp_s] at G hl
      exact kk H locs ls G hl
    · refine g1_f11 C G (lv_at hl 0 rfl) dX1_findWay_86 dX1_findWay_87 ?_
      refine lv_iload C.x C.b dX1_findWay_90 (lv_at hl 4 rfl) ?_
      refine lv_bipush (v := 9) C.x C.b dX1_findWay_92 (by decide) ?_
      refine lv_imul C.x C.b dX1_findWay_94 ?_
      refine lv_iload C.x C.b dX1_findWay_95 (lv_at hl 5 rfl) ?_
      refine lv_iadd C.x C.b dX1_findWay_97 ?_
      refine g1_l11 C G ((nx u) * 9 + i) (by omega) (g_ixx hu1.e rfl) dX1_findWay_98 ?_
      refine lv_if_le (tgt := 122) C.x C.b dX1_findWay_99 (by decide) (fun c99 => ?_) (fun c99 => ?_)
      · refine lv_iinc (v := (nI (i + 1))) (lv' := [(6, .int (nI (i + 1))), (0, .ref h0), (2, .int tv), (3, .int (nI q.1)), (4, .int (nI j)), (5, .int u)]) C.x C.b dX1_findWay_122 hl (k := 5) rfl (nI_1 i) (by decide) rfl (fun ls hl => ?_)
        refine lv_goto (tgt := 67) C.x C.b dX1_findWay_125 (by decide) ?_
        have eq : p_fwv u i q = q := by unfold p_fwv; rw [if_neg c83, if_pos c99]
        rw [eq] at hJ1
        refine ih (i + 1) q H locs ls (by omega) hJ1.1 hJ1.2 G (lv_sub hl [1, 2, 3, 4, 5, 0] rfl) (fun H locs ls G hl => ?_)
        rw [← eq, ← lp_s] at G hl
        exact kk H locs ls G hl
      · have hroom := hJ.room (v := i) (by omega) c83
        refine g1_f12 C G (lv_at hl 0 rfl) dX1_findWay_102 dX1_findWay_103 ?_
        refine lv_iload C.x C.b dX1_findWay_106 (lv_at hl 5 rfl) ?_
        refine lv_iload C.x C.b dX1_findWay_108 (lv_at hl 4 rfl) ?_
        refine g1_s12 C G i (by omega) rfl dX1_findWay_110 (fun H locs G => ?_)
        refine g1_f13 C G (lv_at hl 0 rfl) dX1_findWay_111 dX1_findWay_112 ?_
        refine lv_iload_n C.x C.b dX1_findWay_115 rfl (lv_at hl 2 rfl) ?_
        refine lv_iload C.x C.b dX1_findWay_116 (lv_at hl 5 rfl) ?_
        refine g1_s13 C G q.1 (by omega) rfl dX1_findWay_118 (fun H locs G => ?_)
        refine lv_iinc (v := (nI (q.1 + 1))) (lv' := [(3, .int (nI (q.1 + 1))), (0, .ref h0), (2, .int tv), (4, .int (nI j)), (5, .int u), (6, .int (nI i))]) C.x C.b dX1_findWay_119 hl (k := 2) rfl (nI_1 q.1) (by decide) rfl (fun ls hl => ?_)
        refine lv_iinc (v := (nI (i + 1))) (lv' := [(6, .int (nI (i + 1))), (3, .int (nI (q.1 + 1))), (0, .ref h0), (2, .int tv), (4, .int (nI j)), (5, .int u)]) C.x C.b dX1_findWay_122 hl (k := 5) rfl (nI_1 i) (by decide) rfl (fun ls hl => ?_)
        refine lv_goto (tgt := 67) C.x C.b dX1_findWay_125 (by decide) ?_
        have eq : p_fwv u i q = (q.1 + 1, g_up (g_up q.2 12 i u) 13 q.1 (nI i)) := by unfold p_fwv; rw [if_neg c83, if_neg c99]
        rw [eq] at hJ1
        refine ih (i + 1) (q.1 + 1, g_up (g_up q.2 12 i u) 13 q.1 (nI i)) H locs ls (by omega) hJ1.1 hJ1.2 G (lv_sub hl [2, 3, 1, 4, 5, 0] rfl) (fun H locs ls G hl => ?_)
        rw [← eq, ← lp_s] at G hl
        exact kk H locs ls G hl
set_option maxHeartbeats 2000000 in
theorem w_fw3 (C : g_C RX1 p s m args c cX1_findWay 7 D dI dZ) (hn : n ≤ 9) {tv : Int32} : ∀ (k i : Nat) (q : Nat × g_St) (H : Heap) (locs : List Loc) (ls : Array Slot), i + k = 9 → g_J n q → g1_G D dI dZ A H0 h0 ad n q.2 H locs → lv_has ls 7 [(0, .ref h0), (2, .int tv), (3, .int (nI q.1)), (4, .int (nI i))] → (∀ (H : Heap) (locs : List Loc) (ls : Array Slot), g1_G D dI dZ A H0 h0 ad n (p_fwl n k i q).2 H locs → lv_has ls 7 [(0, .ref h0), (2, .int tv)] → W p l e R s m args below meth c H locs 0 0 Q (F0 m 134 ls [])) → W p l e R s m args below meth c H locs 0 0 Q (F0 m 42 ls []) := by
  intro k
  induction k with
  | zero =>
    intro i q H locs ls hk hJ G hl kk
    have hJ0 := hJ.1
    refine lv_iload C.x C.b dX1_findWay_42 (lv_at hl 3 rfl) ?_
    refine lv_iload_n C.x C.b dX1_findWay_44 rfl (lv_at hl 2 rfl) ?_
    refine lv_icmp_ge (tgt := 134) C.x C.b dX1_findWay_45 (by decide) (fun c45 => ?_) (fun c45 => ?_)
    · exact kk H locs ls G (lv_sub hl [0, 1] rfl)
    · refine lv_iload C.x C.b dX1_findWay_48 (lv_at hl 3 rfl) ?_
      refine lv_bipush (v := (nI 9)) C.x C.b dX1_findWay_50 (by decide) ?_
      refine lv_icmp_ge (tgt := 134) C.x C.b dX1_findWay_52 (by decide) (fun _ => ?_) (fun hq => absurd (nI_le (by omega) (by omega)) hq)
      exact kk H locs ls G (lv_sub hl [0, 1] rfl)
  | succ k ih =>
    intro i q H locs ls hk hJ G hl kk
    have hJ0 := hJ.1
    refine lv_iload C.x C.b dX1_findWay_42 (lv_at hl 3 rfl) ?_
    refine lv_iload_n C.x C.b dX1_findWay_44 rfl (lv_at hl 2 rfl) ?_
    refine lv_icmp_ge (tgt := 134) C.x C.b dX1_findWay_45 (by decide) (fun c45 => ?_) (fun c45 => ?_)
    · have hc : q.1 ≤ i := (nI_leI (by omega) (by omega)).mp c45
      have eq : p_fwl n (k + 1) i q = q := if_pos hc
      rw [eq] at kk
      exact kk H locs ls G (lv_sub hl [0, 1] rfl)
    · have hc : ¬ q.1 ≤ i := fun h => c45 (nI_le h (by omega))
      have eq : p_fwl n (k + 1) i q = p_fwl n k (i + 1) (p_fwo n i q) := if_neg hc
      rw [eq] at kk
      refine lv_iload C.x C.b dX1_findWay_48 (lv_at hl 3 rfl) ?_
      refine lv_bipush (v := (nI 9)) C.x C.b dX1_findWay_50 (by decide) ?_
      refine lv_icmp_ge (tgt := 134) C.x C.b dX1_findWay_52 (by decide) (fun hq => absurd hq (nI_ge (by omega) (by omega))) (fun _ => ?_)
      refine g1_f13 C G (lv_at hl 0 rfl) dX1_findWay_55 dX1_findWay_56 ?_
      refine lv_iload C.x C.b dX1_findWay_59 (lv_at hl 3 rfl) ?_
      refine g1_l13 C G i (by omega) rfl dX1_findWay_61 ?_
      refine lv_istore (lv' := [(5, .int (q.2 13 i)), (0, .ref h0), (2, .int tv), (3, .int (nI q.1)), (4, .int (nI i))]) C.x C.b dX1_findWay_62 hl (by decide) rfl (fun ls hl => ?_)
      refine lv_iconst (v := (nI 0)) C.x C.b dX1_findWay_64 (by decide) ?_
      refine lv_istore (lv' := [(6, .int (nI 0)), (5, .int (q.2 13 i)), (0, .ref h0), (2, .int tv), (3, .int (nI q.1)), (4, .int (nI i))]) C.x C.b dX1_findWay_65 hl (by decide) rfl (fun ls hl => ?_)
      have hu := hJ.2.1 i (by omega)
      refine w_fw2 C hn n 0 q H locs ls (by omega) hJ hu G (lv_sub hl [2, 3, 4, 5, 1, 0] rfl) (fun H locs ls G hl => ?_)
      replace hl : lv_has ls 7 [(0, .ref h0), (2, .int tv), (3, .int (nI ((p_fwo n i q).1))), (4, .int (nI i))] := hl
      refine lv_iinc (v := (nI (i + 1))) (lv' := [(4, .int (nI (i + 1))), (0, .ref h0), (2, .int tv), (3, .int (nI ((p_fwo n i q).1)))]) C.x C.b dX1_findWay_128 hl (k := 3) rfl (nI_1 i) (by decide) rfl (fun ls hl => ?_)
      refine lv_goto (tgt := 42) C.x C.b dX1_findWay_131 (by decide) ?_
      exact ih (i + 1) (p_fwo n i q) H locs ls (by omega) (p_fwo_J hn n 0 q (by omega) hJ hu).1 G (lv_sub hl [1, 2, 3, 0] rfl) kk
set_option maxHeartbeats 2000000 in
theorem m1_findWay (l : Launch) (D : va_G) (dI dZ : ClassId) (h0 : Nat) (ad : Nat → Nat) (n : Nat) (hn : n ≤ 9) (σ : g_St) (sv tv : Int32) (hs : g_in n sv) (ht : g_in n tv) : g_Mi l D dI dZ (g1_w dI dZ h0 ad n) h0 yX1_findWay cX1_findWay 7 .boolean 0 0 [.int sv, .int tv] σ (fun r τ => r = (p_fw n sv tv σ).1 ∧ τ = (p_fw n sv tv σ).2) := by
  refine g_starti (own := RX1) (by decide +kernel) rfl (Nat.le_of_ble_eq_true rfl) ?_
  intro p e s m below meth c A ls hr hlk hA C G hl
  replace hl : lv_has ls 7 [(0, .ref h0), (1, .int sv), (2, .int tv)] := hl
  refine lv_iconst (v := (nI 0)) C.x C.b dX1_findWay_0 (by decide) ?_
  refine lv_istore_n (lv' := [(3, .int (nI 0)), (0, .ref h0), (1, .int sv), (2, .int tv)]) C.x C.b dX1_findWay_1 rfl hl (by decide) rfl (fun ls hl => ?_)
  refine w_fw1 C hn n 0 σ _ _ _ (by omega) G (lv_sub hl [1, 2, 3, 0] rfl) (fun H locs ls G hl => ?_)
  have hs1 := hs.mono hn
  have hs2 := hs1.lt
  have ht1 := ht.mono hn
  have ht2 := ht1.lt
  refine g1_f12 C G (lv_at hl 0 rfl) dX1_findWay_23 dX1_findWay_24 ?_
  refine lv_iload_n C.x C.b dX1_findWay_27 rfl (lv_at hl 1 rfl) ?_
  refine lv_iload_n C.x C.b dX1_findWay_28 rfl (lv_at hl 1 rfl) ?_
  refine g1_s12 C G (nx sv) (by omega) hs1.e dX1_findWay_29 (fun H locs G => ?_)
  refine g1_f13 C G (lv_at hl 0 rfl) dX1_findWay_30 dX1_findWay_31 ?_
  refine lv_iconst (v := (nI 0)) C.x C.b dX1_findWay_34 (by decide) ?_
  refine lv_iload_n C.x C.b dX1_findWay_35 rfl (lv_at hl 1 rfl) ?_
  refine g1_s13 C G 0 (by omega) rfl dX1_findWay_36 (fun H locs G => ?_)
  refine lv_iconst (v := (nI 1)) C.x C.b dX1_findWay_37 (by decide) ?_
  refine lv_istore_n (lv' := [(3, .int (nI 1)), (0, .ref h0), (1, .int sv), (2, .int tv)]) C.x C.b dX1_findWay_38 rfl hl (by decide) rfl (fun ls hl => ?_)
  refine lv_iconst (v := (nI 0)) C.x C.b dX1_findWay_39 (by decide) ?_
  refine lv_istore (lv' := [(4, .int (nI 0)), (3, .int (nI 1)), (0, .ref h0), (1, .int sv), (2, .int tv)]) C.x C.b dX1_findWay_40 hl (by decide) rfl (fun ls hl => ?_)
  refine w_fw3 C hn 9 0 (1, p_fw0 n sv σ) _ _ _ (by omega) (p_fw0_J hn hs) G (lv_sub hl [2, 4, 1, 0] rfl) (fun H locs ls G hl => ?_)
  replace G : g1_G D dI dZ A s.heap h0 ad n (p_fws n sv σ) H locs := G
  refine g1_f12 C G (lv_at hl 0 rfl) dX1_findWay_134 dX1_findWay_135 ?_
  refine lv_iload_n C.x C.b dX1_findWay_138 rfl (lv_at hl 1 rfl) ?_
  refine g1_l12 C G (nx tv) (by omega) ht1.e dX1_findWay_139 ?_
  refine lv_if_lt (tgt := 147) C.x C.b dX1_findWay_140 (by decide) (fun c140 => ?_) (fun c140 => ?_)
  · refine lv_iconst (v := 0) C.x C.b dX1_findWay_147 (by decide) ?_
    exact g_zret C G hr hlk rfl ⟨by unfold p_fw; rw [if_pos c140], rfl⟩ dX1_findWay_148
  · refine lv_iconst (v := 1) C.x C.b dX1_findWay_143 (by decide) ?_
    refine lv_goto (tgt := 148) C.x C.b dX1_findWay_144 (by decide) ?_
    exact g_zret C G hr hlk rfl ⟨by unfold p_fw; rw [if_neg c140], rfl⟩ dX1_findWay_148
set_option maxHeartbeats 2000000 in
theorem w_sa1 (C : g_C RX1 p s m args c cX1_sendAlong 7 D dI dZ) (hn : n ≤ 9) {sv tv : Int32} {σ : g_St} (hcl : g_cl n σ) : ∀ (k i : Nat) (q : Int32 × Int32) (H : Heap) (locs : List Loc) (ls : Array Slot), i + k = 9 → g_rc n σ q.2 → g1_G D dI dZ A H0 h0 ad n σ H locs → lv_has ls 7 [(0, .ref h0), (1, .int sv), (2, .int tv), (3, .int q.1), (4, .int q.2), (5, .int (nI i))] → (∀ (H : Heap) (locs : List Loc) (ls : Array Slot), g1_G D dI dZ A H0 h0 ad n σ H locs → lv_has ls 7 [(0, .ref h0), (1, .int sv), (2, .int tv), (3, .int (p_sa1 σ sv k q))] → W p l e R s m args below meth c H locs 0 0 Q (F0 m 72 ls [])) → W p l e R s m args below meth c H locs 0 0 Q (F0 m 9 ls []) := by
  intro k
  induction k with
  | zero =>
    intro i q H locs ls hk hv G hl kk
    refine lv_iload C.x C.b dX1_sendAlong_9 (lv_at hl 5 rfl) ?_
    refine lv_bipush (v := (nI 9)) C.x C.b dX1_sendAlong_11 (by decide) ?_
    refine lv_icmp_ge (tgt := 72) C.x C.b dX1_sendAlong_13 (by decide) (fun _ => ?_) (fun hq => absurd (nI_le (by omega) (by omega)) hq)
    exact kk H locs ls G (lv_sub hl [0, 1, 2, 3] rfl)
  | succ k ih =>
    intro i q H locs ls hk hv G hl kk
    refine lv_iload C.x C.b dX1_sendAlong_9 (lv_at hl 5 rfl) ?_
    refine lv_bipush (v := (nI 9)) C.x C.b dX1_sendAlong_11 (by decide) ?_
    refine lv_icmp_ge (tgt := 72) C.x C.b dX1_sendAlong_13 (by decide) (fun hq => absurd hq (nI_ge (by omega) (by omega))) (fun _ => ?_)
    refine lv_iload C.x C.b dX1_sendAlong_16 (lv_at hl 4 rfl) ?_
    refine lv_iload_n C.x C.b dX1_sendAlong_18 rfl (lv_at hl 1 rfl) ?_
    refine lv_icmp_eq (tgt := 72) C.x C.b dX1_sendAlong_19 (by decide) (fun c19 => ?_) (fun c19 => ?_)
    · have eq : p_sa1 σ sv (k + 1) q = q.1 := if_pos c19
      rw [eq] at kk
      exact kk H locs ls G (lv_sub hl [0, 1, 2, 3] rfl)
    · have hv1 := hv.in.mono hn
      have hv2 := hv1.lt
      have hw := hv.next hn hcl
      have hw1 := hw.in.mono hn
      have hw2 := hw1.lt
      refine g1_f12 C G (lv_at hl 0 rfl) dX1_sendAlong_22 dX1_sendAlong_23 ?_
      refine lv_iload C.x C.b dX1_sendAlong_26 (lv_at hl 4 rfl) ?_
      refine g1_l12 C G (nx q.2) (by omega) hv1.e dX1_sendAlong_28 ?_
      refine lv_istore (lv' := [(6, .int (σ 12 (nx q.2))), (0, .ref h0), (1, .int sv), (2, .int tv), (3, .int q.1), (4, .int q.2), (5, .int (nI i))]) C.x C.b dX1_sendAlong_29 hl (by decide) rfl (fun ls hl => ?_)
      refine g1_f11 C G (lv_at hl 1 rfl) dX1_sendAlong_31 dX1_sendAlong_32 ?_
      refine lv_iload C.x C.b dX1_sendAlong_35 (lv_at hl 0 rfl) ?_
      refine lv_bipush (v := 9) C.x C.b dX1_sendAlong_37 (by decide) ?_
      refine lv_imul C.x C.b dX1_sendAlong_39 ?_
      refine lv_iload C.x C.b dX1_sendAlong_40 (lv_at hl 5 rfl) ?_
      refine lv_iadd C.x C.b dX1_sendAlong_42 ?_
      refine g1_l11 C G ((nx (σ 12 (nx q.2))) * 9 + (nx q.2)) (by omega) (g_ixx hw1.e hv1.e) dX1_sendAlong_43 ?_
      refine lv_iload_n C.x C.b dX1_sendAlong_44 rfl (lv_at hl 4 rfl) ?_
      refine lv_icmp_ge (tgt := 62) C.x C.b dX1_sendAlong_45 (by decide) (fun c45 => ?_) (fun c45 => ?_)
      · refine lv_iload C.x C.b dX1_sendAlong_62 (lv_at hl 0 rfl) ?_
        refine lv_istore (lv' := [(4, .int (σ 12 (nx q.2))), (6, .int (σ 12 (nx q.2))), (0, .ref h0), (1, .int sv), (2, .int tv), (3, .int q.1), (5, .int (nI i))]) C.x C.b dX1_sendAlong_64 hl (by decide) rfl (fun ls hl => ?_)
        refine lv_iinc (v := (nI (i + 1))) (lv' := [(5, .int (nI (i + 1))), (4, .int (σ 12 (nx q.2))), (6, .int (σ 12 (nx q.2))), (0, .ref h0), (1, .int sv), (2, .int tv), (3, .int q.1)]) C.x C.b dX1_sendAlong_66 hl (k := 6) rfl (nI_1 i) (by decide) rfl (fun ls hl => ?_)
        refine lv_goto (tgt := 9) C.x C.b dX1_sendAlong_69 (by decide) ?_
        have eq : p_sa1 σ sv (k + 1) q = p_sa1 σ sv k (q.1, (σ 12 (nx q.2))) := by rw [show p_sa1 σ sv (k + 1) q = _ from if_neg c19, if_pos c45]
        rw [eq] at kk
        exact ih (i + 1) (q.1, (σ 12 (nx q.2))) H locs ls (by omega) hw G (lv_sub hl [3, 4, 5, 6, 1, 0] rfl) kk
      · refine g1_f11 C G (lv_at hl 1 rfl) dX1_sendAlong_48 dX1_sendAlong_49 ?_
        refine lv_iload C.x C.b dX1_sendAlong_52 (lv_at hl 0 rfl) ?_
        refine lv_bipush (v := 9) C.x C.b dX1_sendAlong_54 (by decide) ?_
        refine lv_imul C.x C.b dX1_sendAlong_56 ?_
        refine lv_iload C.x C.b dX1_sendAlong_57 (lv_at hl 5 rfl) ?_
        refine lv_iadd C.x C.b dX1_sendAlong_59 ?_
        refine g1_l11 C G ((nx (σ 12 (nx q.2))) * 9 + (nx q.2)) (by omega) (g_ixx hw1.e hv1.e) dX1_sendAlong_60 ?_
        refine lv_istore_n (lv' := [(3, .int (σ 11 ((nx (σ 12 (nx q.2))) * 9 + (nx q.2)))), (6, .int (σ 12 (nx q.2))), (0, .ref h0), (1, .int sv), (2, .int tv), (4, .int q.2), (5, .int (nI i))]) C.x C.b dX1_sendAlong_61 rfl hl (by decide) rfl (fun ls hl => ?_)
        refine lv_iload C.x C.b dX1_sendAlong_62 (lv_at hl 1 rfl) ?_
        refine lv_istore (lv' := [(4, .int (σ 12 (nx q.2))), (3, .int (σ 11 ((nx (σ 12 (nx q.2))) * 9 + (nx q.2)))), (6, .int (σ 12 (nx q.2))), (0, .ref h0), (1, .int sv), (2, .int tv), (5, .int (nI i))]) C.x C.b dX1_sendAlong_64 hl (by decide) rfl (fun ls hl => ?_)
        refine lv_iinc (v := (nI (i + 1))) (lv' := [(5, .int (nI (i + 1))), (4, .int (σ 12 (nx q.2))), (3, .int (σ 11 ((nx (σ 12 (nx q.2))) * 9 + (nx q.2)))), (6, .int (σ 12 (nx q.2))), (0, .ref h0), (1, .int sv), (2, .int tv)]) C.x C.b dX1_sendAlong_66 hl (k := 6) rfl (nI_1 i) (by decide) rfl (fun ls hl => ?_)
        refine lv_goto (tgt := 9) C.x C.b dX1_sendAlong_69 (by decide) ?_
        have eq : p_sa1 σ sv (k + 1) q = p_sa1 σ sv k ((σ 11 ((nx (σ 12 (nx q.2))) * 9 + (nx q.2))), (σ 12 (nx q.2))) := by rw [show p_sa1 σ sv (k + 1) q = _ from if_neg c19, if_neg c45]
        rw [eq] at kk
        exact ih (i + 1) ((σ 11 ((nx (σ 12 (nx q.2))) * 9 + (nx q.2))), (σ 12 (nx q.2))) H locs ls (by omega) hw G (lv_sub hl [4, 5, 6, 2, 1, 0] rfl) kk
set_option maxHeartbeats 2000000 in
theorem w_sa2 (C : g_C RX1 p s m args c cX1_sendAlong 7 D dI dZ) (hn : n ≤ 9) {sv am : Int32} : ∀ (k i : Nat) (v : Int32) (σ : g_St) (H : Heap) (locs : List Loc) (ls : Array Slot), i + k = 9 → g_cl n σ → g_rc n σ v → g1_G D dI dZ A H0 h0 ad n σ H locs → lv_has ls 7 [(0, .ref h0), (1, .int sv), (3, .int am), (4, .int v), (5, .int (nI i))] → (∀ (H : Heap) (locs : List Loc) (ls : Array Slot), g1_G D dI dZ A H0 h0 ad n (p_sa2 am sv k v σ) H locs → lv_has ls 7 [(0, .ref h0), (3, .int am)] → W p l e R s m args below meth c H locs 0 0 Q (F0 m 144 ls [])) → W p l e R s m args below meth c H locs 0 0 Q (F0 m 78 ls []) := by
  intro k
  induction k with
  | zero =>
    intro i v σ H locs ls hk hcl hv G hl kk
    refine lv_iload C.x C.b dX1_sendAlong_78 (lv_at hl 4 rfl) ?_
    refine lv_bipush (v := (nI 9)) C.x C.b dX1_sendAlong_80 (by decide) ?_
    refine lv_icmp_ge (tgt := 144) C.x C.b dX1_sendAlong_82 (by decide) (fun _ => ?_) (fun hq => absurd (nI_le (by omega) (by omega)) hq)
    exact kk H locs ls G (lv_sub hl [0, 2] rfl)
  | succ k ih =>
    intro i v σ H locs ls hk hcl hv G hl kk
    refine lv_iload C.x C.b dX1_sendAlong_78 (lv_at hl 4 rfl) ?_
    refine lv_bipush (v := (nI 9)) C.x C.b dX1_sendAlong_80 (by decide) ?_
    refine lv_icmp_ge (tgt := 144) C.x C.b dX1_sendAlong_82 (by decide) (fun hq => absurd hq (nI_ge (by omega) (by omega))) (fun _ => ?_)
    refine lv_iload C.x C.b dX1_sendAlong_85 (lv_at hl 3 rfl) ?_
    refine lv_iload_n C.x C.b dX1_sendAlong_87 rfl (lv_at hl 1 rfl) ?_
    refine lv_icmp_eq (tgt := 144) C.x C.b dX1_sendAlong_88 (by decide) (fun c88 => ?_) (fun c88 => ?_)
    · have eq : p_sa2 am sv (k + 1) v σ = σ := if_pos c88
      rw [eq] at kk
      exact kk H locs ls G (lv_sub hl [0, 2] rfl)
    · have hv1 := hv.in.mono hn
      have hv2 := hv1.lt
      have hw := hv.next hn hcl
      have hw1 := hw.in.mono hn
      have hw2 := hw1.lt
      refine g1_f12 C G (lv_at hl 0 rfl) dX1_sendAlong_91 dX1_sendAlong_92 ?_
      refine lv_iload C.x C.b dX1_sendAlong_95 (lv_at hl 3 rfl) ?_
      refine g1_l12 C G (nx v) (by omega) hv1.e dX1_sendAlong_97 ?_
      refine lv_istore (lv' := [(6, .int (σ 12 (nx v))), (0, .ref h0), (1, .int sv), (3, .int am), (4, .int v), (5, .int (nI i))]) C.x C.b dX1_sendAlong_98 hl (by decide) rfl (fun ls hl => ?_)
      refine g1_f11 C G (lv_at hl 1 rfl) dX1_sendAlong_100 dX1_sendAlong_101 ?_
      refine lv_iload C.x C.b dX1_sendAlong_104 (lv_at hl 0 rfl) ?_
      refine lv_bipush (v := 9) C.x C.b dX1_sendAlong_106 (by decide) ?_
      refine lv_imul C.x C.b dX1_sendAlong_108 ?_
      refine lv_iload C.x C.b dX1_sendAlong_109 (lv_at hl 4 rfl) ?_
      refine lv_iadd C.x C.b dX1_sendAlong_111 ?_
      refine lv_dup2_11 C.x C.b dX1_sendAlong_112 rfl rfl ?_
      refine g1_l11 C G ((nx (σ 12 (nx v))) * 9 + (nx v)) (by omega) (g_ixx hw1.e hv1.e) dX1_sendAlong_113 ?_
      refine lv_iload_n C.x C.b dX1_sendAlong_114 rfl (lv_at hl 3 rfl) ?_
      refine lv_isub C.x C.b dX1_sendAlong_115 ?_
      refine g1_s11 C G ((nx (σ 12 (nx v))) * 9 + (nx v)) (by omega) (g_ixx hw1.e hv1.e) dX1_sendAlong_116 (fun H locs G => ?_)
      replace G : g1_G D dI dZ A H0 h0 ad n (p_sa2u am v σ) H locs := G
      refine g1_f11 C G (lv_at hl 1 rfl) dX1_sendAlong_117 dX1_sendAlong_118 ?_
      refine lv_iload C.x C.b dX1_sendAlong_121 (lv_at hl 4 rfl) ?_
      refine lv_bipush (v := 9) C.x C.b dX1_sendAlong_123 (by decide) ?_
      refine lv_imul C.x C.b dX1_sendAlong_125 ?_
      refine lv_iload C.x C.b dX1_sendAlong_126 (lv_at hl 0 rfl) ?_
      refine lv_iadd C.x C.b dX1_sendAlong_128 ?_
      refine lv_dup2_11 C.x C.b dX1_sendAlong_129 rfl rfl ?_
      refine g1_l11 C G ((nx v) * 9 + (nx (σ 12 (nx v)))) (by omega) (g_ixx hv1.e hw1.e) dX1_sendAlong_130 ?_
      refine lv_iload_n C.x C.b dX1_sendAlong_131 rfl (lv_at hl 3 rfl) ?_
      refine lv_iadd C.x C.b dX1_sendAlong_132 ?_
      refine g1_s11 C G ((nx v) * 9 + (nx (σ 12 (nx v)))) (by omega) (g_ixx hv1.e hw1.e) dX1_sendAlong_133 (fun H locs G => ?_)
      refine lv_iload C.x C.b dX1_sendAlong_134 (lv_at hl 0 rfl) ?_
      refine lv_istore (lv' := [(4, .int (σ 12 (nx v))), (6, .int (σ 12 (nx v))), (0, .ref h0), (1, .int sv), (3, .int am), (5, .int (nI i))]) C.x C.b dX1_sendAlong_136 hl (by decide) rfl (fun ls hl => ?_)
      refine lv_iinc (v := (nI (i + 1))) (lv' := [(5, .int (nI (i + 1))), (4, .int (σ 12 (nx v))), (6, .int (σ 12 (nx v))), (0, .ref h0), (1, .int sv), (3, .int am)]) C.x C.b dX1_sendAlong_138 hl (k := 5) rfl (nI_1 i) (by decide) rfl (fun ls hl => ?_)
      refine lv_goto (tgt := 78) C.x C.b dX1_sendAlong_141 (by decide) ?_
      have eq : p_sa2 am sv (k + 1) v σ = p_sa2 am sv k (σ 12 (nx v)) (p_sa2v am v (p_sa2u am v σ)) := if_neg c88
      rw [eq] at kk
      exact ih (i + 1) (σ 12 (nx v)) (p_sa2v am v (p_sa2u am v σ)) H locs ls (by omega) hcl hw G (lv_sub hl [3, 4, 5, 1, 0] rfl) kk
set_option maxHeartbeats 2000000 in
theorem m1_sendAlong (l : Launch) (D : va_G) (dI dZ : ClassId) (h0 : Nat) (ad : Nat → Nat) (n : Nat) (hn : n ≤ 9) (σ : g_St) (sv tv : Int32) (hcl : g_cl n σ) (ht : g_rc n σ tv) : g_Mi l D dI dZ (g1_w dI dZ h0 ad n) h0 yX1_sendAlong cX1_sendAlong 7 .int 0 0 [.int sv, .int tv] σ (fun r τ => r = (p_sa sv tv σ).1 ∧ τ = (p_sa sv tv σ).2) := by
  refine g_starti (own := RX1) (by decide +kernel) rfl (Nat.le_of_ble_eq_true rfl) ?_
  intro p e s m below meth c A ls hr hlk hA C G hl
  replace hl : lv_has ls 7 [(0, .ref h0), (1, .int sv), (2, .int tv)] := hl
  refine lv_ldc C.x C.b C.o (C.t _ q109) dX1_sendAlong_0 ?_
  refine lv_istore_n (lv' := [(3, .int 1000000), (0, .ref h0), (1, .int sv), (2, .int tv)]) C.x C.b dX1_sendAlong_2 rfl hl (by decide) rfl (fun ls hl => ?_)
  refine lv_iload_n C.x C.b dX1_sendAlong_3 rfl (lv_at hl 3 rfl) ?_
  refine lv_istore (lv' := [(4, .int tv), (3, .int 1000000), (0, .ref h0), (1, .int sv), (2, .int tv)]) C.x C.b dX1_sendAlong_4 hl (by decide) rfl (fun ls hl => ?_)
  refine lv_iconst (v := (nI 0)) C.x C.b dX1_sendAlong_6 (by decide) ?_
  refine lv_istore (lv' := [(5, .int (nI 0)), (4, .int tv), (3, .int 1000000), (0, .ref h0), (1, .int sv), (2, .int tv)]) C.x C.b dX1_sendAlong_7 hl (by decide) rfl (fun ls hl => ?_)
  refine w_sa1 C hn hcl 9 0 (1000000, tv) _ _ _ (by omega) ht G (lv_sub hl [3, 4, 5, 2, 1, 0] rfl) (fun H locs ls G hl => ?_)
  replace hl : lv_has ls 7 [(0, .ref h0), (1, .int sv), (2, .int tv), (3, .int (p_saa sv tv σ))] := hl
  refine lv_iload_n C.x C.b dX1_sendAlong_72 rfl (lv_at hl 2 rfl) ?_
  refine lv_istore (lv' := [(4, .int tv), (0, .ref h0), (1, .int sv), (2, .int tv), (3, .int (p_saa sv tv σ))]) C.x C.b dX1_sendAlong_73 hl (by decide) rfl (fun ls hl => ?_)
  refine lv_iconst (v := (nI 0)) C.x C.b dX1_sendAlong_75 (by decide) ?_
  refine lv_istore (lv' := [(5, .int (nI 0)), (4, .int tv), (0, .ref h0), (1, .int sv), (2, .int tv), (3, .int (p_saa sv tv σ))]) C.x C.b dX1_sendAlong_76 hl (by decide) rfl (fun ls hl => ?_)
  refine w_sa2 C hn 9 0 tv σ _ _ _ (by omega) hcl ht G (lv_sub hl [2, 3, 5, 1, 0] rfl) (fun H locs ls G hl => ?_)
  refine lv_iload_n C.x C.b dX1_sendAlong_144 rfl (lv_at hl 1 rfl) ?_
  exact g_iret C G hr hlk ⟨rfl, rfl⟩ dX1_sendAlong_145
set_option maxHeartbeats 2000000 in
theorem w_lb1 (C : g_C RX1 p s m args c cX1_leastBetween 8 D dI dZ) (hn : n ≤ 9) {sv tv : Int32} : ∀ (k i : Nat) (σ : g_St) (H : Heap) (locs : List Loc) (ls : Array Slot), i + k = 81 → g1_G D dI dZ A H0 h0 ad n σ H locs → lv_has ls 8 [(0, .ref h0), (3, .int sv), (4, .int tv), (5, .int (nI i))] → (∀ (H : Heap) (locs : List Loc) (ls : Array Slot), g1_G D dI dZ A H0 h0 ad n (lp p_lbz k i σ) H locs → lv_has ls 8 [(0, .ref h0), (3, .int sv), (4, .int tv)] → W p l e R s m args below meth c H locs 0 0 Q (F0 m 54 ls [])) → W p l e R s m args below meth c H locs 0 0 Q (F0 m 27 ls []) := by
  intro k
  induction k with
  | zero =>
    intro i σ H locs ls hk G hl kk
    refine lv_iload C.x C.b dX1_leastBetween_27 (lv_at hl 3 rfl) ?_
    refine lv_bipush (v := (nI 81)) C.x C.b dX1_leastBetween_29 (by decide) ?_
    refine lv_icmp_ge (tgt := 54) C.x C.b dX1_leastBetween_31 (by decide) (fun _ => ?_) (fun hq => absurd (nI_le (by omega) (by omega)) hq)
    exact kk H locs ls G (lv_sub hl [0, 1, 2] rfl)
  | succ k ih =>
    intro i σ H locs ls hk G hl kk
    refine lv_iload C.x C.b dX1_leastBetween_27 (lv_at hl 3 rfl) ?_
    refine lv_bipush (v := (nI 81)) C.x C.b dX1_leastBetween_29 (by decide) ?_
    refine lv_icmp_ge (tgt := 54) C.x C.b dX1_leastBetween_31 (by decide) (fun hq => absurd hq (nI_ge (by omega) (by omega))) (fun _ => ?_)
    refine g1_f11 C G (lv_at hl 0 rfl) dX1_leastBetween_34 dX1_leastBetween_35 ?_
    refine lv_iload C.x C.b dX1_leastBetween_38 (lv_at hl 3 rfl) ?_
    refine g1_f4 C G (lv_at hl 0 rfl) dX1_leastBetween_40 dX1_leastBetween_41 ?_
    refine lv_iload C.x C.b dX1_leastBetween_44 (lv_at hl 3 rfl) ?_
    refine g1_l4 C G i (by omega) rfl dX1_leastBetween_46 ?_
    refine g1_s11 C G i (by omega) rfl dX1_leastBetween_47 (fun H locs G => ?_)
    refine lv_iinc (v := (nI (i + 1))) (lv' := [(5, .int (nI (i + 1))), (0, .ref h0), (3, .int sv), (4, .int tv)]) C.x C.b dX1_leastBetween_48 hl (k := 3) rfl (nI_1 i) (by decide) rfl (fun ls hl => ?_)
    refine lv_goto (tgt := 27) C.x C.b dX1_leastBetween_51 (by decide) ?_
    exact ih (i + 1) _ H locs ls (by omega) G (lv_sub hl [1, 2, 3, 0] rfl) kk
set_option maxHeartbeats 2000000 in
theorem w_lb2 (C : g_C RX1 p s m args c cX1_leastBetween 8 D dI dZ) (hn : n ≤ 9) (hA : ∀ q, H0.size ≤ q → A q) (hf : 0 + 1 ≤ R.frames) (hlo : 8 + (7 + 11) + 0 ≤ R.locals) {sv tv : Int32} (hs : g_in n sv) (ht : g_in n tv) : ∀ (k i : Nat) (q : Int32 × Int32 × g_St) (H : Heap) (locs : List Loc) (ls : Array Slot), i + k = 400 → g_cl n q.2.2 → (¬ q.2.1 = 0 → g_rc n q.2.2 tv) → g1_G D dI dZ A H0 h0 ad n q.2.2 H locs → lv_has ls 8 [(0, .ref h0), (3, .int sv), (4, .int tv), (5, .int q.1), (6, .int q.2.1), (7, .int (nI i))] → (∀ (H : Heap) (locs : List Loc) (ls : Array Slot), g1_G D dI dZ A H0 h0 ad n (p_lbl n sv tv k q).2 H locs → lv_has ls 8 [(0, .ref h0), (5, .int ((p_lbl n sv tv k q).1))] → W p l e R s m args below meth c H locs 0 0 Q (F0 m 109 ls [])) → W p l e R s m args below meth c H locs 0 0 Q (F0 m 69 ls []) := by
  intro k
  induction k with
  | zero =>
    intro i q H locs ls hk hcl hrc G hl kk
    refine lv_iload C.x C.b dX1_leastBetween_69 (lv_at hl 5 rfl) ?_
    refine lv_sipush (v := (nI 400)) C.x C.b dX1_leastBetween_71 (by decide) ?_
    refine lv_icmp_ge (tgt := 109) C.x C.b dX1_leastBetween_74 (by decide) (fun _ => ?_) (fun hq => absurd (nI_le (by omega) (by omega)) hq)
    exact kk H locs ls G (lv_sub hl [0, 3] rfl)
  | succ k ih =>
    intro i q H locs ls hk hcl hrc G hl kk
    refine lv_iload C.x C.b dX1_leastBetween_69 (lv_at hl 5 rfl) ?_
    refine lv_sipush (v := (nI 400)) C.x C.b dX1_leastBetween_71 (by decide) ?_
    refine lv_icmp_ge (tgt := 109) C.x C.b dX1_leastBetween_74 (by decide) (fun hq => absurd hq (nI_ge (by omega) (by omega))) (fun _ => ?_)
    refine lv_iload C.x C.b dX1_leastBetween_77 (lv_at hl 4 rfl) ?_
    refine lv_if_eq (tgt := 109) C.x C.b dX1_leastBetween_79 (by decide) (fun c79 => ?_) (fun c79 => ?_)
    · have eq : p_lbl n sv tv (k + 1) q = (q.1, q.2.2) := if_pos c79
      rw [eq] at kk
      exact kk H locs ls G (lv_sub hl [0, 3] rfl)
    · have eq : p_lbl n sv tv (k + 1) q = p_lbl n sv tv k (q.1 + (p_sa sv tv q.2.2).1, p_fw n sv tv (p_sa sv tv q.2.2).2) := if_neg c79
      rw [eq] at kk
      refine lv_iload C.x C.b dX1_leastBetween_82 (lv_at hl 3 rfl) ?_
      refine lv_aload_n C.x C.b dX1_leastBetween_84 rfl (lv_at hl 0 rfl) ?_
      refine lv_iload_n C.x C.b dX1_leastBetween_85 rfl (lv_at hl 1 rfl) ?_
      refine lv_iload C.x C.b dX1_leastBetween_86 (lv_at hl 2 rfl) ?_
      refine g_calli (As := [.int sv, .int tv]) (rest := [.int q.1]) C G hA (m1_sendAlong l D dI dZ h0 ad n hn q.2.2 sv tv hcl (hrc c79)) (cw11_sendAlong C.t hf hlo) rfl ⟨0, _, _, rfl, rfl, rfl⟩ hl.1 (Nat.le_of_ble_eq_true rfl) rfl dX1_leastBetween_88 (fun r σ1 H locs hw G => ?_)
      obtain ⟨rfl, rfl⟩ := hw
      refine lv_iadd C.x C.b dX1_leastBetween_91 ?_
      refine lv_istore (lv' := [(5, .int (q.1 + ((p_sa sv tv q.2.2).1))), (0, .ref h0), (3, .int sv), (4, .int tv), (6, .int q.2.1), (7, .int (nI i))]) C.x C.b dX1_leastBetween_92 hl (by decide) rfl (fun ls hl => ?_)
      refine lv_aload_n C.x C.b dX1_leastBetween_94 rfl (lv_at hl 1 rfl) ?_
      refine lv_iload_n C.x C.b dX1_leastBetween_95 rfl (lv_at hl 2 rfl) ?_
      refine lv_iload C.x C.b dX1_leastBetween_96 (lv_at hl 3 rfl) ?_
      refine g_calli (As := [.int sv, .int tv]) (rest := []) C G hA (m1_findWay l D dI dZ h0 ad n hn (p_sa sv tv q.2.2).2 sv tv hs ht) (cw11_findWay C.t hf hlo) rfl ⟨0, _, _, rfl, rfl, rfl⟩ hl.1 (Nat.le_of_ble_eq_true rfl) rfl dX1_leastBetween_98 (fun r σ1 H locs hw G => ?_)
      obtain ⟨rfl, rfl⟩ := hw
      refine lv_istore (lv' := [(6, .int ((p_fw n sv tv (p_sa sv tv q.2.2).2).1)), (5, .int (q.1 + ((p_sa sv tv q.2.2).1))), (0, .ref h0), (3, .int sv), (4, .int tv), (7, .int (nI i))]) C.x C.b dX1_leastBetween_101 hl (by decide) rfl (fun ls hl => ?_)
      refine lv_iinc (v := (nI (i + 1))) (lv' := [(7, .int (nI (i + 1))), (6, .int ((p_fw n sv tv (p_sa sv tv q.2.2).2).1)), (5, .int (q.1 + ((p_sa sv tv q.2.2).1))), (0, .ref h0), (3, .int sv), (4, .int tv)]) C.x C.b dX1_leastBetween_103 hl (k := 5) rfl (nI_1 i) (by decide) rfl (fun ls hl => ?_)
      refine lv_goto (tgt := 69) C.x C.b dX1_leastBetween_106 (by decide) ?_
      have hJ := p_fw_J hn (σ := (p_sa sv tv q.2.2).2) hs ht
      exact ih (i + 1) (q.1 + (p_sa sv tv q.2.2).1, p_fw n sv tv (p_sa sv tv q.2.2).2) H locs ls (by omega) hJ.1 hJ.2 G (lv_sub hl [3, 4, 5, 2, 1, 0] rfl) kk
set_option maxHeartbeats 2000000 in
theorem m1_leastBetween (l : Launch) (D : va_G) (dI dZ : ClassId) (h0 : Nat) (ad : Nat → Nat) (n : Nat) (hn : n ≤ 9) (σ : g_St) (u v : Nat) (hu : u < 9) (hv : v < 9) (hs : g_in n (σ 3 u)) (ht : g_in n (σ 3 v)) : g_Mi l D dI dZ (g1_w dI dZ h0 ad n) h0 yX1_leastBetween cX1_leastBetween 8 .int 1 26 [.int (nI u), .int (nI v)] σ (fun r τ => r = (p_lb n u v σ).1 ∧ τ = (p_lb n u v σ).2) := by
  refine g_starti (own := RX1) (by decide +kernel) rfl (Nat.le_of_ble_eq_true rfl) ?_
  intro p e s m below meth c A ls hr hlk hA C G hl
  replace hl : lv_has ls 8 [(0, .ref h0), (1, .int (nI u)), (2, .int (nI v))] := hl
  refine g1_f3 C G (lv_at hl 0 rfl) dX1_leastBetween_0 dX1_leastBetween_1 ?_
  refine lv_iload_n C.x C.b dX1_leastBetween_4 rfl (lv_at hl 1 rfl) ?_
  refine g1_l3 C G u (by omega) rfl dX1_leastBetween_5 ?_
  refine lv_istore_n (lv' := [(3, .int (σ 3 u)), (0, .ref h0), (1, .int (nI u)), (2, .int (nI v))]) C.x C.b dX1_leastBetween_6 rfl hl (by decide) rfl (fun ls hl => ?_)
  refine g1_f3 C G (lv_at hl 1 rfl) dX1_leastBetween_7 dX1_leastBetween_8 ?_
  refine lv_iload_n C.x C.b dX1_leastBetween_11 rfl (lv_at hl 3 rfl) ?_
  refine g1_l3 C G v (by omega) rfl dX1_leastBetween_12 ?_
  refine lv_istore (lv' := [(4, .int (σ 3 v)), (3, .int (σ 3 u)), (0, .ref h0), (1, .int (nI u)), (2, .int (nI v))]) C.x C.b dX1_leastBetween_13 hl (by decide) rfl (fun ls hl => ?_)
  refine lv_iload_n C.x C.b dX1_leastBetween_15 rfl (lv_at hl 1 rfl) ?_
  refine lv_iload C.x C.b dX1_leastBetween_16 (lv_at hl 0 rfl) ?_
  refine lv_icmp_ne (tgt := 24) C.x C.b dX1_leastBetween_18 (by decide) (fun c18 => ?_) (fun c18 => ?_)
  · refine lv_iconst (v := (nI 0)) C.x C.b dX1_leastBetween_24 (by decide) ?_
    refine lv_istore (lv' := [(5, .int (nI 0)), (4, .int (σ 3 v)), (3, .int (σ 3 u)), (0, .ref h0), (1, .int (nI u)), (2, .int (nI v))]) C.x C.b dX1_leastBetween_25 hl (by decide) rfl (fun ls hl => ?_)
    refine w_lb1 C hn 81 0 σ _ _ _ (by omega) G (lv_sub hl [3, 2, 1, 0] rfl) (fun H locs ls G hl => ?_)
    refine lv_iconst (v := 0) C.x C.b dX1_leastBetween_54 (by decide) ?_
    refine lv_istore (lv' := [(5, .int 0), (0, .ref h0), (3, .int (σ 3 u)), (4, .int (σ 3 v))]) C.x C.b dX1_leastBetween_55 hl (by decide) rfl (fun ls hl => ?_)
    refine lv_aload_n C.x C.b dX1_leastBetween_57 rfl (lv_at hl 1 rfl) ?_
    refine lv_iload_n C.x C.b dX1_leastBetween_58 rfl (lv_at hl 2 rfl) ?_
    refine lv_iload C.x C.b dX1_leastBetween_59 (lv_at hl 3 rfl) ?_
    refine g_calli (As := [.int (σ 3 u), .int (σ 3 v)]) (rest := []) C G hA (m1_findWay l D dI dZ h0 ad n hn (lp p_lbz 81 0 σ) (σ 3 u) (σ 3 v) hs ht) (cw11_findWay C.t (by decide) (by decide)) rfl ⟨0, _, _, rfl, rfl, rfl⟩ hl.1 (Nat.le_of_ble_eq_true rfl) rfl dX1_leastBetween_61 (fun r σ1 H locs hw G => ?_)
    obtain ⟨rfl, rfl⟩ := hw
    refine lv_istore (lv' := [(6, .int ((p_fw n (σ 3 u) (σ 3 v) (lp p_lbz 81 0 σ)).1)), (5, .int 0), (0, .ref h0), (3, .int (σ 3 u)), (4, .int (σ 3 v))]) C.x C.b dX1_leastBetween_64 hl (by decide) rfl (fun ls hl => ?_)
    refine lv_iconst (v := (nI 0)) C.x C.b dX1_leastBetween_66 (by decide) ?_
    refine lv_istore (lv' := [(7, .int (nI 0)), (6, .int ((p_fw n (σ 3 u) (σ 3 v) (lp p_lbz 81 0 σ)).1)), (5, .int 0), (0, .ref h0), (3, .int (σ 3 u)), (4, .int (σ 3 v))]) C.x C.b dX1_leastBetween_67 hl (by decide) rfl (fun ls hl => ?_)
    have hJ := p_fw_J hn (σ := lp p_lbz 81 0 σ) hs ht
    refine w_lb2 C hn hA (by decide) (by decide) hs ht 400 0 (0, p_fw n (σ 3 u) (σ 3 v) (lp p_lbz 81 0 σ)) H locs ls (by omega) hJ.1 hJ.2 G (lv_sub hl [3, 4, 5, 2, 1, 0] rfl) (fun H locs ls G hl => ?_)
    refine lv_iload C.x C.b dX1_leastBetween_109 (lv_at hl 1 rfl) ?_
    exact g_iret C G hr hlk ⟨by unfold p_lb; rw [if_pos c18], by unfold p_lb; rw [if_pos c18]⟩ dX1_leastBetween_111
  · refine lv_bipush (v := (-3)) C.x C.b dX1_leastBetween_21 (by decide) ?_
    exact g_iret C G hr hlk ⟨by unfold p_lb; rw [if_neg (not_not_intro c18)], by unfold p_lb; rw [if_neg (not_not_intro c18)]⟩ dX1_leastBetween_23
end W3
end
section
/-! labels, groups, bits: ranges -/
set_option maxRecDepth 100000
theorem p_ml_at {n : Nat} {a b : Int32} {σ : g_St} : ∀ j, j < n → p_ml n a b σ 3 j = if σ 3 j = (if b ≤ a then a else b) then (if b ≤ a then b else a) else σ 3 j := by
  unfold p_ml
  generalize (if b ≤ a then b else a) = sm
  generalize (if b ≤ a then a else b) = lg
  have h := lp_ind (f := p_mlf sm lg) (fun i s => (∀ j, j < i → s 3 j = if σ 3 j = lg then sm else σ 3 j) ∧ ∀ j, i ≤ j → s 3 j = σ 3 j) n 0 σ ⟨fun j h => by omega, fun j _ => rfl⟩ (fun i s _ _ h => by
    unfold p_mlf
    rw [h.2 i (Nat.le_refl _)]
    split
    · rename_i c
      refine ⟨fun j hj => ?_, fun j hj => h.2 j (by omega)⟩
      by_cases e : j = i
      · subst e; rw [if_neg c]; exact h.2 j (Nat.le_refl _)
      · exact h.1 j (by omega)
    · rename_i c
      refine ⟨fun j hj => ?_, fun j hj => by rw [g_up_n (by omega)]; exact h.2 j (by omega)⟩
      by_cases e : j = i
      · subst e; rw [g_up_s, if_pos (Decidable.of_not_not c)]
      · rw [g_up_n e]; exact h.1 j (by omega))
  rw [Nat.zero_add] at h
  exact h.1
theorem p_ml_in {n : Nat} {a b : Int32} {σ : g_St} (ha : g_in n a) (hb : g_in n b) (h : ∀ j, j < n → g_in n (σ 3 j)) : ∀ j, j < n → g_in n (p_ml n a b σ 3 j) := by
  intro j hj
  rw [p_ml_at j hj]
  have h1 : g_in n (if b ≤ a then b else a) := by
    split
    · exact hb
    · exact ha
  generalize (if b ≤ a then b else a) = sm at h1 ⊢
  generalize (if b ≤ a then a else b) = lg
  split
  · exact h1
  · exact h j hj
theorem p_sl0_at {n : Nat} {σ : g_St} : ∀ j, j < n → lp p_slf n 0 σ 3 j = nI j := by
  have h := lp_ind (f := p_slf) (fun i s => ∀ j, j < i → s 3 j = nI j) n 0 σ (fun j h => by omega) (fun i s _ _ h j hj => by
    by_cases e : j = i
    · subst e; exact g_up_s
    · unfold p_slf; rw [g_up_n e]; exact h j (by omega))
  rw [Nat.zero_add] at h
  exact h
theorem p_slv_in {n : Nat} {skip : Int32} {u v : Nat} {σ : g_St} (hu : u < n) (hv : v < n) (h : ∀ j, j < n → g_in n (σ 3 j)) : ∀ j, j < n → g_in n (p_slv n skip u v σ 3 j) := by
  unfold p_slv; split
  · exact h
  · split
    · exact h
    · split
      · exact h
      · exact p_ml_in (h u hu) (h v hv) h
theorem p_sl_in {n : Nat} {skip : Int32} {σ : g_St} : ∀ j, j < n → g_in n (p_sl n skip σ 3 j) := by
  have h := lp_ind (f := p_slu n skip) (fun i s => ∀ j, j < n → g_in n (s 3 j)) n 0 (lp p_slf n 0 σ) (fun j h => by rw [p_sl0_at j h]; exact g_in.mk h) (fun u s _ hu h => by
    exact lp_ind (f := p_slv n skip u) (fun i s => ∀ j, j < n → g_in n (s 3 j)) (n - (u + 1)) (u + 1) s h (fun v s _ hv h => p_slv_in (by omega) (by omega) h))
  exact h
theorem p_ms_in {n : Nat} {set : Int32} {σ : g_St} (hL : ∀ j, j < n → g_in n (σ 3 j)) (hn : n ≤ 9) : ∀ j, j < n → g_in n (p_ms n set σ 3 j) := by
  have h := lp_ind (f := p_msf n set) (fun i q => (q.1 < 0 ∨ g_in n q.1) ∧ ∀ j, j < n → g_in n (q.2 3 j)) n 0 (-1, σ) ⟨Or.inl (show (-1 : Int32) < 0 by decide), hL⟩ (fun v q _ hv h => by
    unfold p_msf; split
    · exact h
    · split
      · rename_i c
        have hq : g_in n q.1 := h.1.resolve_left (fun h => absurd h (Int32.not_lt.mpr c))
        refine ⟨h.1, p_ml_in (h.2 _ ?_) (h.2 v (by omega)) h.2⟩
        exact hq.lt (Nat.le_trans hn (by decide))
      · exact ⟨Or.inr (g_in.mk (by omega)), h.2⟩)
  exact h.2
theorem p_swg_5 {u : Nat} {σ : g_St} {g : Nat} (h : σ 5 0 = nI g) : p_swg u σ 5 0 = nI (if σ 6 u = 0 then g else g + 1) := by
  unfold p_swg; split
  · exact h
  · rw [g_up_s, h]; exact nI_1 g
theorem p_sw_g {n : Nat} {skip : Int32} {σ : g_St} (hn : n ≤ 9) : g_in 10 (p_sw n skip σ 5 0) := by
  have h := lp_ind (f := p_swu n skip) (fun i s => ∃ g, g ≤ i ∧ s 5 0 = nI g) n 0 (g_up (lp p_swz 81 0 σ) 5 0 0) ⟨0, Nat.le_refl _, rfl⟩ (fun u s _ _ h => by
    obtain ⟨g, h1, h2⟩ := h
    unfold p_swu
    rw [lp_keep (fun i s => p_swv_k (by decide) i s)]
    rw [p_swg_5 (g := g) (by rw [p_swl_k (by decide)]; exact h2)]
    refine ⟨_, ?_, rfl⟩
    split <;> omega)
  obtain ⟨g, h1, h2⟩ := h
  exact ⟨g, by omega, h2⟩
theorem p_fwv_k {u : Int32} {k : Nat} (h2 : ¬ k = 12) (h3 : ¬ k = 13) (v : Nat) (q : Nat × g_St) : (p_fwv u v q).2 k = q.2 k := by
  unfold p_fwv; split
  · rfl
  · split
    · rfl
    · show g_up (g_up q.2 12 v u) 13 q.1 (nI v) k = q.2 k
      rw [g_up_ne h3, g_up_ne h2]
theorem lp_keep2 {α : Type} {f : Nat → α × g_St → α × g_St} {k : Nat} (h : ∀ i s, (f i s).2 k = s.2 k) : ∀ (c i : Nat) (s : α × g_St), (lp f c i s).2 k = s.2 k := by
  intro c
  induction c with
  | zero => intro i s; rfl
  | succ c ih => intro i s; rw [lp_s, ih, h]
theorem p_fwl_k {n k : Nat} (h2 : ¬ k = 12) (h3 : ¬ k = 13) : ∀ (c i : Nat) (q : Nat × g_St), (p_fwl n c i q).2 k = q.2 k := by
  intro c
  induction c with
  | zero => intro i q; rfl
  | succ c ih =>
    intro i q
    unfold p_fwl; split
    · rfl
    · rw [ih]; unfold p_fwo; exact lp_keep2 (fun i s => p_fwv_k h2 h3 i s) _ _ _
theorem p_fw_k {n : Nat} {s t : Int32} {k : Nat} (h2 : ¬ k = 12) (h3 : ¬ k = 13) (σ : g_St) : (p_fw n s t σ).2 k = σ k := by
  show (p_fwl n 9 0 (1, p_fw0 n s σ)).2 k = σ k
  rw [p_fwl_k h2 h3]
  show g_up (g_up (lp p_fwz n 0 σ) 12 (nx s) s) 13 0 s k = σ k
  rw [g_up_ne h3, g_up_ne h2, lp_keep (f := p_fwz) (fun i s => g_up_ne h2)]
theorem p_sa2_k {am s : Int32} {k : Nat} (h : ¬ k = 11) : ∀ (c : Nat) (v : Int32) (σ : g_St), p_sa2 am s c v σ k = σ k := by
  intro c
  induction c with
  | zero => intro v σ; rfl
  | succ c ih =>
    intro v σ
    unfold p_sa2; split
    · rfl
    · rw [ih]; unfold p_sa2v p_sa2u; rw [g_up_ne h, g_up_ne h]
theorem p_sa_k {s t : Int32} {k : Nat} (h : ¬ k = 11) (σ : g_St) : (p_sa s t σ).2 k = σ k := p_sa2_k h _ _ _
theorem p_lbl_k {n : Nat} {s t : Int32} {k : Nat} (h1 : ¬ k = 11) (h2 : ¬ k = 12) (h3 : ¬ k = 13) : ∀ (c : Nat) (q : Int32 × Int32 × g_St), (p_lbl n s t c q).2 k = q.2.2 k := by
  intro c
  induction c with
  | zero => intro q; rfl
  | succ c ih =>
    intro q
    unfold p_lbl; split
    · rfl
    · rw [ih, p_fw_k h2 h3, p_sa_k h1]
theorem p_lb_k {n u v : Nat} {k : Nat} (h1 : ¬ k = 11) (h2 : ¬ k = 12) (h3 : ¬ k = 13) (σ : g_St) : (p_lb n u v σ).2 k = σ k := by
  unfold p_lb; split
  · rw [p_lbl_k h1 h2 h3, p_fw_k h2 h3, lp_keep (f := p_lbz) (fun i s => g_up_ne h1)]
  · rfl
theorem p_bp_0 {n : Nat} {u v : Int32} (hn : n ≤ 9) (h : p_bp n u v = 0) : g_in n u ∧ g_in n v ∧ ¬ u = v := by
  have key : ∀ x : Int32, ¬ x < 0 → ¬ nI n ≤ x → g_in n x := by
    intro x h1 h2
    rcases pk_ix x (n := n) (by omega) with h | h | h
    · exact absurd h h1
    · exact absurd h h2
    · exact h
  unfold p_bp at h
  by_cases c1 : u < 0
  · rw [if_pos c1] at h; exact absurd h (by decide)
  · rw [if_neg c1] at h
    by_cases c2 : nI n ≤ u
    · rw [if_pos c2] at h; exact absurd h (by decide)
    · rw [if_neg c2] at h
      by_cases c3 : v < 0
      · rw [if_pos c3] at h; exact absurd h (by decide)
      · rw [if_neg c3] at h
        by_cases c4 : nI n ≤ v
        · rw [if_pos c4] at h; exact absurd h (by decide)
        · rw [if_neg c4] at h
          by_cases c5 : u = v
          · rw [if_neg (not_not_intro c5)] at h; exact absurd h (by decide)
          · exact ⟨key u c1 c2, key v c3 c4, c5⟩
-- bits
theorem g_or (a b : Nat) : nI a ||| nI b = nI (a ||| b) := by
  apply Int32.toBitVec_inj.mp
  simp [nI, Int32.toBitVec_or, BitVec.ofNat_or]
theorem g_shl : ∀ v, v < 16 → (1 : Int32) <<< (nI v &&& 31) = nI (2 ^ v) := by decide
theorem g_sm : ∀ v, v < 16 → ((nI v &&& 31).toBitVec.smod 32).toNat = v := by decide
theorem g_shr {F v : Nat} (hF : F < 2 ^ 31) (hv : v < 16) : (nI F >>> (nI v &&& 31)) &&& 1 = nI (F / 2 ^ v % 2) := by
  rw [pk_shrN hF (nI v &&& 31) v (g_sm v hv)]
  exact pk_andN (Nat.lt_of_le_of_lt (Nat.div_le_self _ _) (by omega)) 1 (by decide)
theorem p_lwv_le {far : Int32} : ∀ (k i j : Nat), i ≤ j → j < i + k → ¬ (far >>> (nI j &&& 31)) &&& 1 = 0 → p_lwv far k i ≤ j := by
  intro k
  induction k with
  | zero => intro i j h1 h2; omega
  | succ k ih =>
    intro i j h1 h2 h3
    unfold p_lwv; split
    · exact h1
    · rename_i c
      have hne : ¬ i = j := fun e => by subst e; exact c h3
      exact ih (i + 1) j (by omega) (by omega) h3
theorem p_lwv_top {far : Int32} : ∀ (k i : Nat), p_lwv far k i ≤ i + k := by
  intro k
  induction k with
  | zero => intro i; exact Nat.le_refl _
  | succ k ih =>
    intro i
    unfold p_lwv; split
    · omega
    · have := ih (i + 1); omega
/-- a set of the first n, not empty, has its least member under n -/
theorem p_lwv_lt {n F : Nat} (hn : n ≤ 9) (hF : F < 2 ^ n) (h0 : ¬ nI F = 0) : p_lwv (nI F) 8 0 < n := by
  have hF9 : F < 2 ^ 9 := Nat.lt_of_lt_of_le hF (Nat.pow_le_pow_right (by decide) hn)
  have hne : F ≠ 0 := fun e => h0 (by rw [e]; rfl)
  obtain ⟨j, hj⟩ := Nat.exists_testBit_of_ne_zero hne
  have hjn : j < n := by
    rcases Nat.lt_or_ge j n with h | h
    · exact h
    · rw [Nat.testBit_lt_two_pow (Nat.lt_of_lt_of_le hF (Nat.pow_le_pow_right (by decide) h))] at hj
      cases hj
  rcases Nat.lt_or_ge j 8 with h8 | h8
  · refine Nat.lt_of_le_of_lt (p_lwv_le 8 0 j (by omega) (by omega) ?_) hjn
    rw [g_shr (by omega) (by omega)]
    rw [Nat.testBit_eq_decide_div_mod_eq, decide_eq_true_eq] at hj
    rw [hj]; decide
  · have := p_lwv_top (far := nI F) 8 0
    omega
end
section
set_option maxRecDepth 100000
section W4
variable {p : Program} {l : Launch} {e : Env} {R : Room} {s : State} {m : MethodId} {args : Array Value} {below : List Frame} {meth : Method} {c : Code} {Q : State → Prop} {D : va_G} {dI dZ : ClassId} {A : Nat → Prop} {H0 : Heap} {h0 : Nat} {ad : Nat → Nat} {n : Nat}
set_option maxHeartbeats 2000000 in
theorem m1_least (l : Launch) (D : va_G) (dI dZ : ClassId) (h0 : Nat) (ad : Nat → Nat) (n : Nat) (hn : n ≤ 9) (σ : g_St) : g_Mi l D dI dZ (g1_w dI dZ h0 ad n) h0 yX1_least cX1_least 1 .int 3 68 [] σ (fun r τ => r = (p_least n σ).1 ∧ τ = (p_least n σ).2) := by
  refine g_starti (own := RX1) (by decide +kernel) rfl (Nat.le_of_ble_eq_true rfl) ?_
  intro p e s m below meth c A ls hr hlk hA C G hl
  replace hl : lv_has ls 1 [(0, .ref h0)] := hl
  refine lv_aload_n C.x C.b dX1_least_0 rfl (lv_at hl 0 rfl) ?_
  refine lv_iconst (v := (-1)) C.x C.b dX1_least_1 (by decide) ?_
  refine g_callv (As := [.int (-1)]) (rest := []) C G hA (m1_startLabels l D dI dZ h0 ad n hn σ (-1)) (cw11_startLabels C.t (by decide) (by decide)) rfl ⟨0, _, _, rfl, rfl, rfl⟩ hl.1 (Nat.le_of_ble_eq_true rfl) rfl dX1_least_2 (fun σ1 H locs hw G => ?_)
  have hw : σ1 = (p_sl n (-1) σ) := hw
  subst hw
  refine lv_aload_n C.x C.b dX1_least_5 rfl (lv_at hl 0 rfl) ?_
  refine lv_iconst (v := (-1)) C.x C.b dX1_least_6 (by decide) ?_
  refine g_callv (As := [.int (-1)]) (rest := []) C G hA (m1_sumWeights l D dI dZ h0 ad n hn (p_sl n (-1) σ) (-1) (fun j hj => (p_sl_in j hj).mono hn)) (cw11_sumWeights C.t (by decide) (by decide)) rfl ⟨0, _, _, rfl, rfl, rfl⟩ hl.1 (Nat.le_of_ble_eq_true rfl) rfl dX1_least_7 (fun σ1 H locs hw G => ?_)
  have hw : σ1 = (p_prep n (-1) σ) := hw
  subst hw
  refine lv_aload_n C.x C.b dX1_least_10 rfl (lv_at hl 0 rfl) ?_
  refine g_calli (As := []) (rest := []) C G hA (m1_leastOfGroups l D dI dZ h0 ad n hn (p_prep n (-1) σ) (p_sw_g hn)) (cw11_leastOfGroups C.t (by decide) (by decide)) rfl ⟨0, _, _, rfl, rfl, rfl⟩ hl.1 (Nat.le_of_ble_eq_true rfl) rfl dX1_least_11 (fun r σ1 H locs hw G => ?_)
  obtain ⟨rfl, rfl⟩ := hw
  exact g_iret C G hr hlk ⟨rfl, rfl⟩ dX1_least_14
set_option maxHeartbeats 2000000 in
theorem w_lw (C : g_C RX1 p s m args c cX1_leastWith 4 D dI dZ) (hn : n ≤ 9) {far : Int32} {σ : g_St} : ∀ (k i : Nat)  (H : Heap) (locs : List Loc) (ls : Array Slot), i + k = 8 → g1_G D dI dZ A H0 h0 ad n σ H locs → lv_has ls 4 [(0, .ref h0), (2, .int far), (3, .int (nI i))] → (∀ (H : Heap) (locs : List Loc) (ls : Array Slot), g1_G D dI dZ A H0 h0 ad n σ H locs → lv_has ls 4 [(0, .ref h0), (3, .int (nI (p_lwv far k i)))] → W p l e R s m args below meth c H locs 0 0 Q (F0 m 51 ls [])) → W p l e R s m args below meth c H locs 0 0 Q (F0 m 31 ls []) := by
  intro k
  induction k with
  | zero =>
    intro i  H locs ls hk G hl kk
    refine lv_iload_n C.x C.b dX1_leastWith_31 rfl (lv_at hl 2 rfl) ?_
    refine lv_bipush (v := (nI 8)) C.x C.b dX1_leastWith_32 (by decide) ?_
    refine lv_icmp_ge (tgt := 51) C.x C.b dX1_leastWith_34 (by decide) (fun _ => ?_) (fun hq => absurd (nI_le (by omega) (by omega)) hq)
    exact kk H locs ls G (lv_sub hl [0, 2] rfl)
  | succ k ih =>
    intro i  H locs ls hk G hl kk
    refine lv_iload_n C.x C.b dX1_leastWith_31 rfl (lv_at hl 2 rfl) ?_
    refine lv_bipush (v := (nI 8)) C.x C.b dX1_leastWith_32 (by decide) ?_
    refine lv_icmp_ge (tgt := 51) C.x C.b dX1_leastWith_34 (by decide) (fun hq => absurd hq (nI_ge (by omega) (by omega))) (fun _ => ?_)
    refine lv_iload_n C.x C.b dX1_leastWith_37 rfl (lv_at hl 1 rfl) ?_
    refine lv_iload_n C.x C.b dX1_leastWith_38 rfl (lv_at hl 2 rfl) ?_
    refine lv_ishr C.x C.b dX1_leastWith_39 ?_
    refine lv_iconst (v := 1) C.x C.b dX1_leastWith_40 (by decide) ?_
    refine lv_iand C.x C.b dX1_leastWith_41 ?_
    refine lv_if_ne (tgt := 51) C.x C.b dX1_leastWith_42 (by decide) (fun c42 => ?_) (fun c42 => ?_)
    · have eq : p_lwv far (k + 1) i = i := if_pos c42
      rw [eq] at kk
      exact kk H locs ls G (lv_sub hl [0, 2] rfl)
    · have eq : p_lwv far (k + 1) i = p_lwv far k (i + 1) := if_neg (not_not_intro c42)
      rw [eq] at kk
      refine lv_iinc (v := (nI (i + 1))) (lv' := [(3, .int (nI (i + 1))), (0, .ref h0), (2, .int far)]) C.x C.b dX1_leastWith_45 hl (k := 2) rfl (nI_1 i) (by decide) rfl (fun ls hl => ?_)
      refine lv_goto (tgt := 31) C.x C.b dX1_leastWith_48 (by decide) ?_
      exact ih (i + 1) H locs ls (by omega) G (lv_sub hl [1, 2, 0] rfl) kk
set_option maxHeartbeats 2000000 in
theorem m1_leastWith (l : Launch) (D : va_G) (dI dZ : ClassId) (h0 : Nat) (ad : Nat → Nat) (n : Nat) (hn : n ≤ 9) (σ : g_St) (near far : Int32) (hfar : ¬ far = 0 → p_lwv far 8 0 < n) : g_Mi l D dI dZ (g1_w dI dZ h0 ad n) h0 yX1_leastWith cX1_leastWith 4 .int 3 68 [.int near, .int far] σ (fun r τ => r = (p_lw n near far σ).1 ∧ τ = (p_lw n near far σ).2) := by
  refine g_starti (own := RX1) (by decide +kernel) rfl (Nat.le_of_ble_eq_true rfl) ?_
  intro p e s m below meth c A ls hr hlk hA C G hl
  replace hl : lv_has ls 4 [(0, .ref h0), (1, .int near), (2, .int far)] := hl
  refine lv_aload_n C.x C.b dX1_leastWith_0 rfl (lv_at hl 0 rfl) ?_
  refine lv_iconst (v := (-1)) C.x C.b dX1_leastWith_1 (by decide) ?_
  refine g_callv (As := [.int (-1)]) (rest := []) C G hA (m1_startLabels l D dI dZ h0 ad n hn σ (-1)) (cw11_startLabels C.t (by decide) (by decide)) rfl ⟨0, _, _, rfl, rfl, rfl⟩ hl.1 (Nat.le_of_ble_eq_true rfl) rfl dX1_leastWith_2 (fun σ1 H locs hw G => ?_)
  have hw : σ1 = (p_sl n (-1) σ) := hw
  subst hw
  refine lv_aload_n C.x C.b dX1_leastWith_5 rfl (lv_at hl 0 rfl) ?_
  refine lv_iload_n C.x C.b dX1_leastWith_6 rfl (lv_at hl 1 rfl) ?_
  refine g_callv (As := [.int near]) (rest := []) C G hA (m1_mergeSet l D dI dZ h0 ad n hn (p_sl n (-1) σ) near) (cw11_mergeSet C.t (by decide) (by decide)) rfl ⟨0, _, _, rfl, rfl, rfl⟩ hl.1 (Nat.le_of_ble_eq_true rfl) rfl dX1_leastWith_7 (fun σ1 H locs hw G => ?_)
  have hw : σ1 = (p_ms n near (p_sl n (-1) σ)) := hw
  subst hw
  refine lv_aload_n C.x C.b dX1_leastWith_10 rfl (lv_at hl 0 rfl) ?_
  refine lv_iload_n C.x C.b dX1_leastWith_11 rfl (lv_at hl 2 rfl) ?_
  refine g_callv (As := [.int far]) (rest := []) C G hA (m1_mergeSet l D dI dZ h0 ad n hn (p_ms n near (p_sl n (-1) σ)) far) (cw11_mergeSet C.t (by decide) (by decide)) rfl ⟨0, _, _, rfl, rfl, rfl⟩ hl.1 (Nat.le_of_ble_eq_true rfl) rfl dX1_leastWith_12 (fun σ1 H locs hw G => ?_)
  have hw : σ1 = (p_ms n far (p_ms n near (p_sl n (-1) σ))) := hw
  subst hw
  have hL : ∀ j, j < n → g_in n (p_ms n far (p_ms n near (p_sl n (-1) σ)) 3 j) := p_ms_in (p_ms_in p_sl_in hn) hn
  refine lv_aload_n C.x C.b dX1_leastWith_15 rfl (lv_at hl 0 rfl) ?_
  refine lv_iconst (v := (-1)) C.x C.b dX1_leastWith_16 (by decide) ?_
  refine g_callv (As := [.int (-1)]) (rest := []) C G hA (m1_sumWeights l D dI dZ h0 ad n hn (p_ms n far (p_ms n near (p_sl n (-1) σ))) (-1) (fun j hj => (hL j hj).mono hn)) (cw11_sumWeights C.t (by decide) (by decide)) rfl ⟨0, _, _, rfl, rfl, rfl⟩ hl.1 (Nat.le_of_ble_eq_true rfl) rfl dX1_leastWith_17 (fun σ1 H locs hw G => ?_)
  have hw : σ1 = (p_lwp n near far σ) := hw
  subst hw
  have hL2 : ∀ j, j < n → g_in n (p_lwp n near far σ 3 j) := by intro j hj; unfold p_lwp; rw [p_sw_k (by decide) (by decide) (by decide)]; exact hL j hj
  refine lv_iload_n C.x C.b dX1_leastWith_20 rfl (lv_at hl 2 rfl) ?_
  refine lv_if_ne (tgt := 29) C.x C.b dX1_leastWith_21 (by decide) (fun c21 => ?_) (fun c21 => ?_)
  · refine lv_iconst (v := (nI 0)) C.x C.b dX1_leastWith_29 (by decide) ?_
    refine lv_istore_n (lv' := [(3, .int (nI 0)), (0, .ref h0), (1, .int near), (2, .int far)]) C.x C.b dX1_leastWith_30 rfl hl (by decide) rfl (fun ls hl => ?_)
    refine w_lw C hn 8 0 _ _ _ (by omega) G (lv_sub hl [1, 3, 0] rfl) (fun H locs ls G hl => ?_)
    refine lv_aload_n C.x C.b dX1_leastWith_51 rfl (lv_at hl 0 rfl) ?_
    refine lv_iconst (v := (nI 0)) C.x C.b dX1_leastWith_52 (by decide) ?_
    refine lv_iload_n C.x C.b dX1_leastWith_53 rfl (lv_at hl 1 rfl) ?_
    have hv := hfar c21
    refine g_calli (As := [.int (nI 0), .int (nI (p_lwv far 8 0))]) (rest := []) C G hA (m1_leastBetween l D dI dZ h0 ad n hn (p_lwp n near far σ) 0 (p_lwv far 8 0) (by decide) (by omega) (hL2 0 (by omega)) (hL2 _ hv)) (cw11_leastBetween C.t (by decide) (by decide)) rfl ⟨0, _, _, rfl, rfl, rfl⟩ hl.1 (Nat.le_of_ble_eq_true rfl) rfl dX1_leastWith_54 (fun r σ1 H locs hw G => ?_)
    obtain ⟨rfl, rfl⟩ := hw
    exact g_iret C G hr hlk ⟨by unfold p_lw; rw [if_pos c21], by unfold p_lw; rw [if_pos c21]⟩ dX1_leastWith_57
  · refine lv_aload_n C.x C.b dX1_leastWith_24 rfl (lv_at hl 0 rfl) ?_
    refine g_calli (As := []) (rest := []) C G hA (m1_leastOfGroups l D dI dZ h0 ad n hn (p_lwp n near far σ) (p_sw_g hn)) (cw11_leastOfGroups C.t (by decide) (by decide)) rfl ⟨0, _, _, rfl, rfl, rfl⟩ hl.1 (Nat.le_of_ble_eq_true rfl) rfl dX1_leastWith_25 (fun r σ1 H locs hw G => ?_)
    obtain ⟨rfl, rfl⟩ := hw
    exact g_iret C G hr hlk ⟨by unfold p_lw; rw [if_neg (not_not_intro c21)], by unfold p_lw; rw [if_neg (not_not_intro c21)]⟩ dX1_leastWith_28
set_option maxHeartbeats 2000000 in
theorem w_sm (C : g_C RX1 p s m args c cX1_smallest 6 D dI dZ) (hn : n ≤ 9) (hA : ∀ q, H0.size ≤ q → A q) (hf : 3 + 1 ≤ R.frames) (hlo : 8 + (4 + 11) + 68 ≤ R.locals) {value : Int32} : ∀ (k i : Nat) (q : Int32 × Int32 × g_St) (H : Heap) (locs : List Loc) (ls : Array Slot), k < n → (∃ F : Nat, q.2.1 = nI F ∧ F < 2 ^ n) → g1_G D dI dZ A H0 h0 ad n q.2.2 H locs → lv_has ls 6 [(0, .ref h0), (1, .int value), (2, .int q.1), (3, .int q.2.1), (4, .int (nI k))] → (∀ (H : Heap) (locs : List Loc) (ls : Array Slot), g1_G D dI dZ A H0 h0 ad n (p_smr n value k q).2.2 H locs → lv_has ls 6 [(0, .ref h0), (3, .int ((p_smr n value k q).2.1))] → W p l e R s m args below meth c H locs 0 0 Q (F0 m 74 ls [])) → W p l e R s m args below meth c H locs 0 0 Q (F0 m 26 ls []) := by
  intro k
  induction k with
  | zero =>
    intro i q H locs ls hk hF G hl kk
    refine lv_iload C.x C.b dX1_smallest_26 (lv_at hl 4 rfl) ?_
    refine lv_iconst (v := 1) C.x C.b dX1_smallest_28 (by decide) ?_
    refine lv_icmp_lt (tgt := 74) C.x C.b dX1_smallest_29 (by decide) (fun _ => ?_) (fun hq => absurd (by decide) hq)
    exact kk H locs ls G (lv_sub hl [0, 3] rfl)
  | succ k ih =>
    intro i q H locs ls hk hF G hl kk
    refine lv_iload C.x C.b dX1_smallest_26 (lv_at hl 4 rfl) ?_
    refine lv_iconst (v := (nI 1)) C.x C.b dX1_smallest_28 (by decide) ?_
    refine lv_icmp_lt (tgt := 74) C.x C.b dX1_smallest_29 (by decide) (fun hq => absurd hq (nI_nlt (by omega) (by omega))) (fun _ => ?_)
    refine lv_aload_n C.x C.b dX1_smallest_32 rfl (lv_at hl 0 rfl) ?_
    refine lv_iload_n C.x C.b dX1_smallest_33 rfl (lv_at hl 2 rfl) ?_
    refine lv_iconst (v := 1) C.x C.b dX1_smallest_34 (by decide) ?_
    refine lv_iload C.x C.b dX1_smallest_35 (lv_at hl 4 rfl) ?_
    refine lv_ishl C.x C.b dX1_smallest_37 ?_
    refine lv_ior C.x C.b dX1_smallest_38 ?_
    refine lv_iload_n C.x C.b dX1_smallest_39 rfl (lv_at hl 3 rfl) ?_
    obtain ⟨F, hF1, hF2⟩ := hF
    have hfar : ¬ q.2.1 = 0 → p_lwv q.2.1 8 0 < n := by intro h; rw [hF1] at h ⊢; exact p_lwv_lt hn hF2 h
    refine g_calli (As := [.int (q.1 ||| (1 <<< ((nI (k + 1)) &&& 31))), .int q.2.1]) (rest := []) C G hA (m1_leastWith l D dI dZ h0 ad n hn q.2.2 (q.1 ||| (1 <<< (nI (k + 1) &&& 31))) q.2.1 hfar) (cw11_leastWith C.t hf hlo) rfl ⟨0, _, _, rfl, rfl, rfl⟩ hl.1 (Nat.le_of_ble_eq_true rfl) rfl dX1_smallest_40 (fun r σ1 H locs hw G => ?_)
    obtain ⟨rfl, rfl⟩ := hw
    refine lv_istore (lv' := [(5, .int ((p_lw n (q.1 ||| (1 <<< (nI (k + 1) &&& 31))) q.2.1 q.2.2).1)), (0, .ref h0), (1, .int value), (2, .int q.1), (3, .int q.2.1), (4, .int (nI (k + 1)))]) C.x C.b dX1_smallest_43 hl (by decide) rfl (fun ls hl => ?_)
    refine lv_iload C.x C.b dX1_smallest_45 (lv_at hl 0 rfl) ?_
    refine lv_iload_n C.x C.b dX1_smallest_47 rfl (lv_at hl 2 rfl) ?_
    refine lv_icmp_ne (tgt := 61) C.x C.b dX1_smallest_48 (by decide) (fun c48 => ?_) (fun c48 => ?_)
    · refine lv_iload_n C.x C.b dX1_smallest_61 rfl (lv_at hl 4 rfl) ?_
      refine lv_iconst (v := 1) C.x C.b dX1_smallest_62 (by decide) ?_
      refine lv_iload C.x C.b dX1_smallest_63 (lv_at hl 5 rfl) ?_
      refine lv_ishl C.x C.b dX1_smallest_65 ?_
      refine lv_ior C.x C.b dX1_smallest_66 ?_
      refine lv_istore_n (lv' := [(3, .int (q.2.1 ||| (1 <<< ((nI (k + 1)) &&& 31)))), (5, .int ((p_lw n (q.1 ||| (1 <<< (nI (k + 1) &&& 31))) q.2.1 q.2.2).1)), (0, .ref h0), (1, .int value), (2, .int q.1), (4, .int (nI (k + 1)))]) C.x C.b dX1_smallest_67 rfl hl (by decide) rfl (fun ls hl => ?_)
      refine lv_iinc (v := (nI k)) (lv' := [(4, .int (nI k)), (3, .int (q.2.1 ||| (1 <<< ((nI (k + 1)) &&& 31)))), (5, .int ((p_lw n (q.1 ||| (1 <<< (nI (k + 1) &&& 31))) q.2.1 q.2.2).1)), (0, .ref h0), (1, .int value), (2, .int q.1)]) C.x C.b dX1_smallest_68 hl (k := 5) rfl (pk_m1 k) (by decide) rfl (fun ls hl => ?_)
      refine lv_goto (tgt := 26) C.x C.b dX1_smallest_71 (by decide) ?_
      have eq : p_smf n value (k + 1) q = (q.1, q.2.1 ||| (1 <<< (nI (k + 1) &&& 31)), (p_lw n (q.1 ||| (1 <<< (nI (k + 1) &&& 31))) q.2.1 q.2.2).2) := by unfold p_smf; rw [if_pos c48]
      refine ih 0 (q.1, q.2.1 ||| (1 <<< (nI (k + 1) &&& 31)), (p_lw n (q.1 ||| (1 <<< (nI (k + 1) &&& 31))) q.2.1 q.2.2).2) H locs ls (by omega) ⟨F ||| 2 ^ (k + 1), by rw [hF1, g_shl (k + 1) (by omega), g_or], Nat.or_lt_two_pow hF2 (Nat.pow_lt_pow_right (by decide) (by omega))⟩ G (lv_sub hl [3, 4, 5, 1, 0] rfl) (fun H locs ls G hl => ?_)
      rw [← eq] at G hl
      exact kk H locs ls G hl
    · refine lv_iload_n C.x C.b dX1_smallest_51 rfl (lv_at hl 3 rfl) ?_
      refine lv_iconst (v := 1) C.x C.b dX1_smallest_52 (by decide) ?_
      refine lv_iload C.x C.b dX1_smallest_53 (lv_at hl 5 rfl) ?_
      refine lv_ishl C.x C.b dX1_smallest_55 ?_
      refine lv_ior C.x C.b dX1_smallest_56 ?_
      refine lv_istore_n (lv' := [(2, .int (q.1 ||| (1 <<< ((nI (k + 1)) &&& 31)))), (5, .int ((p_lw n (q.1 ||| (1 <<< (nI (k + 1) &&& 31))) q.2.1 q.2.2).1)), (0, .ref h0), (1, .int value), (3, .int q.2.1), (4, .int (nI (k + 1)))]) C.x C.b dX1_smallest_57 rfl hl (by decide) rfl (fun ls hl => ?_)
      refine lv_goto (tgt := 68) C.x C.b dX1_smallest_58 (by decide) ?_
      refine lv_iinc (v := (nI k)) (lv' := [(4, .int (nI k)), (2, .int (q.1 ||| (1 <<< ((nI (k + 1)) &&& 31)))), (5, .int ((p_lw n (q.1 ||| (1 <<< (nI (k + 1) &&& 31))) q.2.1 q.2.2).1)), (0, .ref h0), (1, .int value), (3, .int q.2.1)]) C.x C.b dX1_smallest_68 hl (k := 5) rfl (pk_m1 k) (by decide) rfl (fun ls hl => ?_)
      refine lv_goto (tgt := 26) C.x C.b dX1_smallest_71 (by decide) ?_
      have eq : p_smf n value (k + 1) q = (q.1 ||| (1 <<< (nI (k + 1) &&& 31)), q.2.1, (p_lw n (q.1 ||| (1 <<< (nI (k + 1) &&& 31))) q.2.1 q.2.2).2) := by unfold p_smf; rw [if_neg (not_not_intro c48)]
      refine ih 0 (q.1 ||| (1 <<< (nI (k + 1) &&& 31)), q.2.1, (p_lw n (q.1 ||| (1 <<< (nI (k + 1) &&& 31))) q.2.1 q.2.2).2) H locs ls (by omega) ⟨F, hF1, hF2⟩ G (lv_sub hl [3, 4, 1, 5, 0] rfl) (fun H locs ls G hl => ?_)
      rw [← eq] at G hl
      exact kk H locs ls G hl
set_option maxHeartbeats 2000000 in
theorem m1_smallest (l : Launch) (D : va_G) (dI dZ : ClassId) (h0 : Nat) (ad : Nat → Nat) (n : Nat) (hn : n ≤ 9) (σ : g_St) (hn1 : 1 ≤ n) : g_Mi l D dI dZ (g1_w dI dZ h0 ad n) h0 yX1_smallest cX1_smallest 6 .int 4 91 [] σ (fun r τ => r = (p_sm n σ).1 ∧ τ = (p_sm n σ).2) := by
  refine g_starti (own := RX1) (by decide +kernel) rfl (Nat.le_of_ble_eq_true rfl) ?_
  intro p e s m below meth c A ls hr hlk hA C G hl
  replace hl : lv_has ls 6 [(0, .ref h0)] := hl
  refine lv_aload_n C.x C.b dX1_smallest_0 rfl (lv_at hl 0 rfl) ?_
  refine g_calli (As := []) (rest := []) C G hA (m1_least l D dI dZ h0 ad n hn σ) (cw11_least C.t (by decide) (by decide)) rfl ⟨0, _, _, rfl, rfl, rfl⟩ hl.1 (Nat.le_of_ble_eq_true rfl) rfl dX1_smallest_1 (fun r σ1 H locs hw G => ?_)
  obtain ⟨rfl, rfl⟩ := hw
  refine lv_istore_n (lv' := [(1, .int ((p_least n σ).1)), (0, .ref h0)]) C.x C.b dX1_smallest_4 rfl hl (by decide) rfl (fun ls hl => ?_)
  refine lv_iload_n C.x C.b dX1_smallest_5 rfl (lv_at hl 0 rfl) ?_
  refine lv_bipush (v := (-3)) C.x C.b dX1_smallest_6 (by decide) ?_
  refine lv_icmp_ne (tgt := 14) C.x C.b dX1_smallest_8 (by decide) (fun c8 => ?_) (fun c8 => ?_)
  · refine lv_iconst (v := 1) C.x C.b dX1_smallest_14 (by decide) ?_
    refine lv_istore_n (lv' := [(2, .int 1), (1, .int ((p_least n σ).1)), (0, .ref h0)]) C.x C.b dX1_smallest_15 rfl hl (by decide) rfl (fun ls hl => ?_)
    refine lv_iconst (v := 0) C.x C.b dX1_smallest_16 (by decide) ?_
    refine lv_istore_n (lv' := [(3, .int 0), (2, .int 1), (1, .int ((p_least n σ).1)), (0, .ref h0)]) C.x C.b dX1_smallest_17 rfl hl (by decide) rfl (fun ls hl => ?_)
    refine g1_f0 C G (lv_at hl 3 rfl) dX1_smallest_18 dX1_smallest_19 ?_
    refine lv_iconst (v := 1) C.x C.b dX1_smallest_22 (by decide) ?_
    refine lv_isub C.x C.b dX1_smallest_23 ?_
    rw [show (nI n - 1 : Int32) = nI (n - 1) from pk_sub (a := n) (b := 1) (by omega)]
    refine lv_istore (lv' := [(4, .int (nI (n - 1))), (3, .int 0), (2, .int 1), (1, .int ((p_least n σ).1)), (0, .ref h0)]) C.x C.b dX1_smallest_24 hl (by decide) rfl (fun ls hl => ?_)
    refine w_sm C hn hA (by decide) (by decide) (n - 1) 0 (1, 0, (p_least n σ).2) _ _ _ (by omega) ⟨0, rfl, Nat.two_pow_pos n⟩ G (lv_sub hl [4, 3, 2, 1, 0] rfl) (fun H locs ls G hl => ?_)
    refine lv_iload_n C.x C.b dX1_smallest_74 rfl (lv_at hl 1 rfl) ?_
    exact g_iret C G hr hlk ⟨by unfold p_sm; rw [if_pos c8], by unfold p_sm; rw [if_pos c8]⟩ dX1_smallest_75
  · refine lv_bipush (v := (-3)) C.x C.b dX1_smallest_11 (by decide) ?_
    exact g_iret C G hr hlk ⟨by unfold p_sm; rw [if_neg (not_not_intro c8)], by unfold p_sm; rw [if_neg (not_not_intro c8)]⟩ dX1_smallest_13
set_option maxHeartbeats 2000000 in
theorem m1_between (l : Launch) (D : va_G) (dI dZ : ClassId) (h0 : Nat) (ad : Nat → Nat) (n : Nat) (hn : n ≤ 9) (σ : g_St) (u v : Int32) : g_Mi l D dI dZ (g1_w dI dZ h0 ad n) h0 yX1_between cX1_between 3 .int 2 53 [.int u, .int v] σ (fun r τ => r = (p_bt n u v σ).1 ∧ τ = (p_bt n u v σ).2) := by
  refine g_starti (own := RX1) (by decide +kernel) rfl (Nat.le_of_ble_eq_true rfl) ?_
  intro p e s m below meth c A ls hr hlk hA C G hl
  replace hl : lv_has ls 3 [(0, .ref h0), (1, .int u), (2, .int v)] := hl
  refine lv_aload_n C.x C.b dX1_between_0 rfl (lv_at hl 0 rfl) ?_
  refine lv_iload_n C.x C.b dX1_between_1 rfl (lv_at hl 1 rfl) ?_
  refine lv_iload_n C.x C.b dX1_between_2 rfl (lv_at hl 2 rfl) ?_
  refine g_calli (As := [.int u, .int v]) (rest := []) C G hA (m1_badPair l D dI dZ h0 ad n hn σ u v) (cw11_badPair C.t (by decide) (by decide)) rfl ⟨0, _, _, rfl, rfl, rfl⟩ hl.1 (Nat.le_of_ble_eq_true rfl) rfl dX1_between_3 (fun r σ1 H locs hw G => ?_)
  obtain ⟨rfl, hw2⟩ := hw
  rw [hw2] at G
  clear hw2
  refine lv_if_eq (tgt := 11) C.x C.b dX1_between_6 (by decide) (fun c6 => ?_) (fun c6 => ?_)
  · obtain ⟨⟨a, ha, rfl⟩, ⟨b, hb, rfl⟩, hne⟩ := p_bp_0 hn c6
    refine lv_aload_n C.x C.b dX1_between_11 rfl (lv_at hl 0 rfl) ?_
    refine lv_iconst (v := (-1)) C.x C.b dX1_between_12 (by decide) ?_
    refine g_callv (As := [.int (-1)]) (rest := []) C G hA (m1_startLabels l D dI dZ h0 ad n hn σ (-1)) (cw11_startLabels C.t (by decide) (by decide)) rfl ⟨0, _, _, rfl, rfl, rfl⟩ hl.1 (Nat.le_of_ble_eq_true rfl) rfl dX1_between_13 (fun σ1 H locs hw G => ?_)
    have hw : σ1 = (p_sl n (-1) σ) := hw
    subst hw
    refine lv_aload_n C.x C.b dX1_between_16 rfl (lv_at hl 0 rfl) ?_
    refine lv_iconst (v := (-1)) C.x C.b dX1_between_17 (by decide) ?_
    refine g_callv (As := [.int (-1)]) (rest := []) C G hA (m1_sumWeights l D dI dZ h0 ad n hn (p_sl n (-1) σ) (-1) (fun j hj => (p_sl_in j hj).mono hn)) (cw11_sumWeights C.t (by decide) (by decide)) rfl ⟨0, _, _, rfl, rfl, rfl⟩ hl.1 (Nat.le_of_ble_eq_true rfl) rfl dX1_between_18 (fun σ1 H locs hw G => ?_)
    have hw : σ1 = (p_prep n (-1) σ) := hw
    subst hw
    have hL : ∀ j, j < n → g_in n (p_prep n (-1) σ 3 j) := by intro j hj; unfold p_prep; rw [p_sw_k (by decide) (by decide) (by decide)]; exact p_sl_in j hj
    refine lv_aload_n C.x C.b dX1_between_21 rfl (lv_at hl 0 rfl) ?_
    refine lv_iload_n C.x C.b dX1_between_22 rfl (lv_at hl 1 rfl) ?_
    refine lv_iload_n C.x C.b dX1_between_23 rfl (lv_at hl 2 rfl) ?_
    refine g_calli (As := [.int (nI a), .int (nI b)]) (rest := []) C G hA (m1_leastBetween l D dI dZ h0 ad n hn (p_prep n (-1) σ) a b (by omega) (by omega) (hL a ha) (hL b hb)) (cw11_leastBetween C.t (by decide) (by decide)) rfl ⟨0, _, _, rfl, rfl, rfl⟩ hl.1 (Nat.le_of_ble_eq_true rfl) rfl dX1_between_24 (fun r σ1 H locs hw G => ?_)
    obtain ⟨rfl, rfl⟩ := hw
    exact g_iret C G hr hlk ⟨by unfold p_bt; rw [if_pos c6, nx_nI (by omega), nx_nI (by omega)], by unfold p_bt; rw [if_pos c6, nx_nI (by omega), nx_nI (by omega)]⟩ dX1_between_27
  · refine lv_iconst (v := (-1)) C.x C.b dX1_between_9 (by decide) ?_
    exact g_iret C G hr hlk ⟨by unfold p_bt; rw [if_neg c6], by unfold p_bt; rw [if_neg c6]⟩ dX1_between_10
set_option maxHeartbeats 2000000 in
theorem w_va2 (C : g_C RX1 p s m args c cX1_value 5 D dI dZ) (hn : n ≤ 9) {mask : Int32} {σ : g_St} {u : Nat} (hu : u < n) : ∀ (k i : Nat) (x : Int32) (H : Heap) (locs : List Loc) (ls : Array Slot), i + k = n → g1_G D dI dZ A H0 h0 ad n σ H locs → lv_has ls 5 [(0, .ref h0), (1, .int mask), (2, .int x), (3, .int (nI u)), (4, .int (nI i))] → (∀ (H : Heap) (locs : List Loc) (ls : Array Slot), g1_G D dI dZ A H0 h0 ad n σ H locs → lv_has ls 5 [(0, .ref h0), (1, .int mask), (2, .int (lp (p_vav σ mask u) k i x)), (3, .int (nI u))] → W p l e R s m args below meth c H locs 0 0 Q (F0 m 63 ls [])) → W p l e R s m args below meth c H locs 0 0 Q (F0 m 15 ls []) := by
  intro k
  induction k with
  | zero =>
    intro i x H locs ls hk G hl kk
    refine lv_iload C.x C.b dX1_value_15 (lv_at hl 4 rfl) ?_
    refine g1_f0 C G (lv_at hl 0 rfl) dX1_value_17 dX1_value_18 ?_
    refine lv_icmp_ge (tgt := 63) C.x C.b dX1_value_21 (by decide) (fun _ => ?_) (fun hq => absurd (nI_le (by omega) (by omega)) hq)
    exact kk H locs ls G (lv_sub hl [0, 1, 2, 3] rfl)
  | succ k ih =>
    intro i x H locs ls hk G hl kk
    refine lv_iload C.x C.b dX1_value_15 (lv_at hl 4 rfl) ?_
    refine g1_f0 C G (lv_at hl 0 rfl) dX1_value_17 dX1_value_18 ?_
    refine lv_icmp_ge (tgt := 63) C.x C.b dX1_value_21 (by decide) (fun hq => absurd hq (nI_ge (by omega) (by omega))) (fun _ => ?_)
    refine lv_iload_n C.x C.b dX1_value_24 rfl (lv_at hl 1 rfl) ?_
    refine lv_iload_n C.x C.b dX1_value_25 rfl (lv_at hl 3 rfl) ?_
    refine lv_ishr C.x C.b dX1_value_26 ?_
    refine lv_iconst (v := 1) C.x C.b dX1_value_27 (by decide) ?_
    refine lv_iand C.x C.b dX1_value_28 ?_
    refine lv_iconst (v := 1) C.x C.b dX1_value_29 (by decide) ?_
    refine lv_icmp_ne (tgt := 57) C.x C.b dX1_value_30 (by decide) (fun c30 => ?_) (fun c30 => ?_)
    · refine lv_iinc (v := (nI (i + 1))) (lv' := [(4, .int (nI (i + 1))), (0, .ref h0), (1, .int mask), (2, .int x), (3, .int (nI u))]) C.x C.b dX1_value_57 hl (k := 4) rfl (nI_1 i) (by decide) rfl (fun ls hl => ?_)
      refine lv_goto (tgt := 15) C.x C.b dX1_value_60 (by decide) ?_
      exact ih (i + 1) x H locs ls (by omega) G (lv_sub hl [1, 2, 3, 4, 0] rfl) (fun H locs ls G hl => kk H locs ls G (by rw [lp_s, show p_vav σ mask u i x = x from by unfold p_vav; rw [if_pos c30]]; exact hl))
    · refine lv_iload_n C.x C.b dX1_value_33 rfl (lv_at hl 1 rfl) ?_
      refine lv_iload C.x C.b dX1_value_34 (lv_at hl 4 rfl) ?_
      refine lv_ishr C.x C.b dX1_value_36 ?_
      refine lv_iconst (v := 1) C.x C.b dX1_value_37 (by decide) ?_
      refine lv_iand C.x C.b dX1_value_38 ?_
      refine lv_if_ne (tgt := 57) C.x C.b dX1_value_39 (by decide) (fun c39 => ?_) (fun c39 => ?_)
      · refine lv_iinc (v := (nI (i + 1))) (lv' := [(4, .int (nI (i + 1))), (0, .ref h0), (1, .int mask), (2, .int x), (3, .int (nI u))]) C.x C.b dX1_value_57 hl (k := 4) rfl (nI_1 i) (by decide) rfl (fun ls hl => ?_)
        refine lv_goto (tgt := 15) C.x C.b dX1_value_60 (by decide) ?_
        exact ih (i + 1) x H locs ls (by omega) G (lv_sub hl [1, 2, 3, 4, 0] rfl) (fun H locs ls G hl => kk H locs ls G (by rw [lp_s, show p_vav σ mask u i x = x from by unfold p_vav; rw [if_neg (not_not_intro c30), if_pos c39]]; exact hl))
      · refine lv_iload_n C.x C.b dX1_value_42 rfl (lv_at hl 2 rfl) ?_
        refine g1_f1 C G (lv_at hl 0 rfl) dX1_value_43 dX1_value_44 ?_
        refine lv_iload_n C.x C.b dX1_value_47 rfl (lv_at hl 3 rfl) ?_
        refine lv_bipush (v := 9) C.x C.b dX1_value_48 (by decide) ?_
        refine lv_imul C.x C.b dX1_value_50 ?_
        refine lv_iload C.x C.b dX1_value_51 (lv_at hl 4 rfl) ?_
        refine lv_iadd C.x C.b dX1_value_53 ?_
        refine g1_l1 C G (u * 9 + i) (by omega) (g_ixx rfl rfl) dX1_value_54 ?_
        refine lv_iadd C.x C.b dX1_value_55 ?_
        refine lv_istore_n (lv' := [(2, .int (x + (σ 1 (u * 9 + i)))), (0, .ref h0), (1, .int mask), (3, .int (nI u)), (4, .int (nI i))]) C.x C.b dX1_value_56 rfl hl (by decide) rfl (fun ls hl => ?_)
        refine lv_iinc (v := (nI (i + 1))) (lv' := [(4, .int (nI (i + 1))), (2, .int (x + (σ 1 (u * 9 + i)))), (0, .ref h0), (1, .int mask), (3, .int (nI u))]) C.x C.b dX1_value_57 hl (k := 4) rfl (nI_1 i) (by decide) rfl (fun ls hl => ?_)
        refine lv_goto (tgt := 15) C.x C.b dX1_value_60 (by decide) ?_
        exact ih (i + 1) (x + σ 1 (u * 9 + i)) H locs ls (by omega) G (lv_sub hl [2, 3, 1, 4, 0] rfl) (fun H locs ls G hl => kk H locs ls G (by rw [lp_s, show p_vav σ mask u i x = (x + σ 1 (u * 9 + i)) from by unfold p_vav; rw [if_neg (not_not_intro c30), if_neg (not_not_intro c39)]]; exact hl))
set_option maxHeartbeats 2000000 in
theorem w_va1 (C : g_C RX1 p s m args c cX1_value 5 D dI dZ) (hn : n ≤ 9) {mask : Int32} {σ : g_St} : ∀ (k i : Nat) (x : Int32) (H : Heap) (locs : List Loc) (ls : Array Slot), i + k = n → g1_G D dI dZ A H0 h0 ad n σ H locs → lv_has ls 5 [(0, .ref h0), (1, .int mask), (2, .int x), (3, .int (nI i))] → (∀ (H : Heap) (locs : List Loc) (ls : Array Slot), g1_G D dI dZ A H0 h0 ad n σ H locs → lv_has ls 5 [(0, .ref h0), (2, .int (lp (p_vau n σ mask) k i x))] → W p l e R s m args below meth c H locs 0 0 Q (F0 m 69 ls [])) → W p l e R s m args below meth c H locs 0 0 Q (F0 m 4 ls []) := by
  intro k
  induction k with
  | zero =>
    intro i x H locs ls hk G hl kk
    refine lv_iload_n C.x C.b dX1_value_4 rfl (lv_at hl 3 rfl) ?_
    refine g1_f0 C G (lv_at hl 0 rfl) dX1_value_5 dX1_value_6 ?_
    refine lv_icmp_ge (tgt := 69) C.x C.b dX1_value_9 (by decide) (fun _ => ?_) (fun hq => absurd (nI_le (by omega) (by omega)) hq)
    exact kk H locs ls G (lv_sub hl [0, 2] rfl)
  | succ k ih =>
    intro i x H locs ls hk G hl kk
    refine lv_iload_n C.x C.b dX1_value_4 rfl (lv_at hl 3 rfl) ?_
    refine g1_f0 C G (lv_at hl 0 rfl) dX1_value_5 dX1_value_6 ?_
    refine lv_icmp_ge (tgt := 69) C.x C.b dX1_value_9 (by decide) (fun hq => absurd hq (nI_ge (by omega) (by omega))) (fun _ => ?_)
    refine lv_iconst (v := (nI 0)) C.x C.b dX1_value_12 (by decide) ?_
    refine lv_istore (lv' := [(4, .int (nI 0)), (0, .ref h0), (1, .int mask), (2, .int x), (3, .int (nI i))]) C.x C.b dX1_value_13 hl (by decide) rfl (fun ls hl => ?_)
    refine w_va2 C hn (u := i) (by omega) n 0 x H locs ls (by omega) G (lv_sub hl [1, 2, 3, 4, 0] rfl) (fun H locs ls G hl => ?_)
    replace hl : lv_has ls 5 [(0, .ref h0), (1, .int mask), (2, .int (p_vau n σ mask i x)), (3, .int (nI i))] := hl
    refine lv_iinc (v := (nI (i + 1))) (lv' := [(3, .int (nI (i + 1))), (0, .ref h0), (1, .int mask), (2, .int (p_vau n σ mask i x))]) C.x C.b dX1_value_63 hl (k := 3) rfl (nI_1 i) (by decide) rfl (fun ls hl => ?_)
    refine lv_goto (tgt := 4) C.x C.b dX1_value_66 (by decide) ?_
    exact ih (i + 1) (p_vau n σ mask i x) H locs ls (by omega) G (lv_sub hl [1, 2, 3, 0] rfl) kk
set_option maxHeartbeats 2000000 in
theorem m1_value (l : Launch) (D : va_G) (dI dZ : ClassId) (h0 : Nat) (ad : Nat → Nat) (n : Nat) (hn : n ≤ 9) (σ : g_St) (mask : Int32) : g_Mi l D dI dZ (g1_w dI dZ h0 ad n) h0 yX1_value cX1_value 5 .int 0 0 [.int mask] σ (fun r τ => r = p_va n mask σ ∧ τ = σ) := by
  refine g_starti (own := RX1) (by decide +kernel) rfl (Nat.le_of_ble_eq_true rfl) ?_
  intro p e s m below meth c A ls hr hlk hA C G hl
  replace hl : lv_has ls 5 [(0, .ref h0), (1, .int mask)] := hl
  refine lv_iconst (v := 0) C.x C.b dX1_value_0 (by decide) ?_
  refine lv_istore_n (lv' := [(2, .int 0), (0, .ref h0), (1, .int mask)]) C.x C.b dX1_value_1 rfl hl (by decide) rfl (fun ls hl => ?_)
  refine lv_iconst (v := (nI 0)) C.x C.b dX1_value_2 (by decide) ?_
  refine lv_istore_n (lv' := [(3, .int (nI 0)), (2, .int 0), (0, .ref h0), (1, .int mask)]) C.x C.b dX1_value_3 rfl hl (by decide) rfl (fun ls hl => ?_)
  refine w_va1 C hn n 0 0 _ _ _ (by omega) G (lv_sub hl [2, 3, 1, 0] rfl) (fun H locs ls G hl => ?_)
  refine lv_iload_n C.x C.b dX1_value_69 rfl (lv_at hl 1 rfl) ?_
  exact g_iret C G hr hlk ⟨rfl, rfl⟩ dX1_value_70
set_option maxHeartbeats 2000000 in
theorem w_se2 (C : g_C RX1 p s m args c cX1_separated 6 D dI dZ) (hn : n ≤ 9) (hA : ∀ q, H0.size ≤ q → A q) (hf : 1 + 1 ≤ R.frames) (hlo : 8 + (8 + 11) + 26 ≤ R.locals) {value : Int32} {u : Nat} (hu : u < n) : ∀ (k i : Nat) (q : Int32 × g_St) (H : Heap) (locs : List Loc) (ls : Array Slot), i + k = n → (∀ j, j < n → g_in n (q.2 3 j)) → g1_G D dI dZ A H0 h0 ad n q.2 H locs → lv_has ls 6 [(0, .ref h0), (1, .int value), (2, .int q.1), (3, .int (nI u)), (4, .int (nI i))] → (∀ (H : Heap) (locs : List Loc) (ls : Array Slot), g1_G D dI dZ A H0 h0 ad n (lp (p_sev n value u) k i q).2 H locs → lv_has ls 6 [(0, .ref h0), (1, .int value), (2, .int ((lp (p_sev n value u) k i q).1)), (3, .int (nI u))] → W p l e R s m args below meth c H locs 0 0 Q (F0 m 73 ls [])) → W p l e R s m args below meth c H locs 0 0 Q (F0 m 40 ls []) := by
  intro k
  induction k with
  | zero =>
    intro i q H locs ls hk hL G hl kk
    refine lv_iload C.x C.b dX1_separated_40 (lv_at hl 4 rfl) ?_
    refine g1_f0 C G (lv_at hl 0 rfl) dX1_separated_42 dX1_separated_43 ?_
    refine lv_icmp_ge (tgt := 73) C.x C.b dX1_separated_46 (by decide) (fun _ => ?_) (fun hq => absurd (nI_le (by omega) (by omega)) hq)
    exact kk H locs ls G (lv_sub hl [0, 1, 2, 3] rfl)
  | succ k ih =>
    intro i q H locs ls hk hL G hl kk
    refine lv_iload C.x C.b dX1_separated_40 (lv_at hl 4 rfl) ?_
    refine g1_f0 C G (lv_at hl 0 rfl) dX1_separated_42 dX1_separated_43 ?_
    refine lv_icmp_ge (tgt := 73) C.x C.b dX1_separated_46 (by decide) (fun hq => absurd hq (nI_ge (by omega) (by omega))) (fun _ => ?_)
    refine lv_aload_n C.x C.b dX1_separated_49 rfl (lv_at hl 0 rfl) ?_
    refine lv_iload_n C.x C.b dX1_separated_50 rfl (lv_at hl 3 rfl) ?_
    refine lv_iload C.x C.b dX1_separated_51 (lv_at hl 4 rfl) ?_
    refine g_calli (As := [.int (nI u), .int (nI i)]) (rest := []) C G hA (m1_leastBetween l D dI dZ h0 ad n hn q.2 u i (by omega) (by omega) (hL u hu) (hL i (by omega))) (cw11_leastBetween C.t hf hlo) rfl ⟨0, _, _, rfl, rfl, rfl⟩ hl.1 (Nat.le_of_ble_eq_true rfl) rfl dX1_separated_53 (fun r σ1 H locs hw G => ?_)
    obtain ⟨rfl, rfl⟩ := hw
    refine lv_istore (lv' := [(5, .int ((p_lb n u i q.2).1)), (0, .ref h0), (1, .int value), (2, .int q.1), (3, .int (nI u)), (4, .int (nI i))]) C.x C.b dX1_separated_56 hl (by decide) rfl (fun ls hl => ?_)
    refine lv_iload C.x C.b dX1_separated_58 (lv_at hl 0 rfl) ?_
    refine lv_iload_n C.x C.b dX1_separated_60 rfl (lv_at hl 2 rfl) ?_
    refine lv_icmp_ne (tgt := 67) C.x C.b dX1_separated_61 (by decide) (fun c61 => ?_) (fun c61 => ?_)
    · refine lv_iinc (v := (nI (i + 1))) (lv' := [(4, .int (nI (i + 1))), (5, .int ((p_lb n u i q.2).1)), (0, .ref h0), (1, .int value), (2, .int q.1), (3, .int (nI u))]) C.x C.b dX1_separated_67 hl (k := 5) rfl (nI_1 i) (by decide) rfl (fun ls hl => ?_)
      refine lv_goto (tgt := 40) C.x C.b dX1_separated_70 (by decide) ?_
      have eq : p_sev n value u i q = (q.1, (p_lb n u i q.2).2) := by unfold p_sev; rw [if_pos c61]
      refine ih (i + 1) (q.1, (p_lb n u i q.2).2) H locs ls (by omega) (by intro j hj; show g_in n ((p_lb n u i q.2).2 3 j); rw [p_lb_k (by decide) (by decide) (by decide)]; exact hL j hj) G (lv_sub hl [2, 3, 4, 5, 0] rfl) (fun H locs ls G hl => ?_)
      rw [← eq, ← lp_s] at G hl
      exact kk H locs ls G hl
    · refine lv_iinc (v := (q.1 + 1)) (lv' := [(2, .int (q.1 + 1)), (5, .int ((p_lb n u i q.2).1)), (0, .ref h0), (1, .int value), (3, .int (nI u)), (4, .int (nI i))]) C.x C.b dX1_separated_64 hl (k := 3) rfl rfl (by decide) rfl (fun ls hl => ?_)
      refine lv_iinc (v := (nI (i + 1))) (lv' := [(4, .int (nI (i + 1))), (2, .int (q.1 + 1)), (5, .int ((p_lb n u i q.2).1)), (0, .ref h0), (1, .int value), (3, .int (nI u))]) C.x C.b dX1_separated_67 hl (k := 5) rfl (nI_1 i) (by decide) rfl (fun ls hl => ?_)
      refine lv_goto (tgt := 40) C.x C.b dX1_separated_70 (by decide) ?_
      have eq : p_sev n value u i q = (q.1 + 1, (p_lb n u i q.2).2) := by unfold p_sev; rw [if_neg (not_not_intro c61)]
      refine ih (i + 1) (q.1 + 1, (p_lb n u i q.2).2) H locs ls (by omega) (by intro j hj; show g_in n ((p_lb n u i q.2).2 3 j); rw [p_lb_k (by decide) (by decide) (by decide)]; exact hL j hj) G (lv_sub hl [3, 4, 1, 5, 0] rfl) (fun H locs ls G hl => ?_)
      rw [← eq, ← lp_s] at G hl
      exact kk H locs ls G hl
set_option maxHeartbeats 2000000 in
theorem w_se1 (C : g_C RX1 p s m args c cX1_separated 6 D dI dZ) (hn : n ≤ 9) (hA : ∀ q, H0.size ≤ q → A q) (hf : 1 + 1 ≤ R.frames) (hlo : 8 + (8 + 11) + 26 ≤ R.locals) {value : Int32} : ∀ (k i : Nat) (q : Int32 × g_St) (H : Heap) (locs : List Loc) (ls : Array Slot), i + k = n → (∀ j, j < n → g_in n (q.2 3 j)) → g1_G D dI dZ A H0 h0 ad n q.2 H locs → lv_has ls 6 [(0, .ref h0), (1, .int value), (2, .int q.1), (3, .int (nI i))] → (∀ (H : Heap) (locs : List Loc) (ls : Array Slot), g1_G D dI dZ A H0 h0 ad n (lp (p_seu n value) k i q).2 H locs → lv_has ls 6 [(0, .ref h0), (2, .int ((lp (p_seu n value) k i q).1))] → W p l e R s m args below meth c H locs 0 0 Q (F0 m 79 ls [])) → W p l e R s m args below meth c H locs 0 0 Q (F0 m 27 ls []) := by
  intro k
  induction k with
  | zero =>
    intro i q H locs ls hk hL G hl kk
    refine lv_iload_n C.x C.b dX1_separated_27 rfl (lv_at hl 3 rfl) ?_
    refine g1_f0 C G (lv_at hl 0 rfl) dX1_separated_28 dX1_separated_29 ?_
    refine lv_icmp_ge (tgt := 79) C.x C.b dX1_separated_32 (by decide) (fun _ => ?_) (fun hq => absurd (nI_le (by omega) (by omega)) hq)
    exact kk H locs ls G (lv_sub hl [0, 2] rfl)
  | succ k ih =>
    intro i q H locs ls hk hL G hl kk
    refine lv_iload_n C.x C.b dX1_separated_27 rfl (lv_at hl 3 rfl) ?_
    refine g1_f0 C G (lv_at hl 0 rfl) dX1_separated_28 dX1_separated_29 ?_
    refine lv_icmp_ge (tgt := 79) C.x C.b dX1_separated_32 (by decide) (fun hq => absurd hq (nI_ge (by omega) (by omega))) (fun _ => ?_)
    refine lv_iload_n C.x C.b dX1_separated_35 rfl (lv_at hl 3 rfl) ?_
    refine lv_iconst (v := 1) C.x C.b dX1_separated_36 (by decide) ?_
    refine lv_iadd C.x C.b dX1_separated_37 ?_
    rw [show (nI i + 1 : Int32) = nI (i + 1) from nI_1 i]
    refine lv_istore (lv' := [(4, .int (nI (i + 1))), (0, .ref h0), (1, .int value), (2, .int q.1), (3, .int (nI i))]) C.x C.b dX1_separated_38 hl (by decide) rfl (fun ls hl => ?_)
    refine w_se2 C hn hA hf hlo (u := i) (by omega) (n - (i + 1)) (i + 1) q H locs ls (by omega) hL G (lv_sub hl [1, 2, 3, 4, 0] rfl) (fun H locs ls G hl => ?_)
    replace hl : lv_has ls 6 [(0, .ref h0), (1, .int value), (2, .int ((p_seu n value i q).1)), (3, .int (nI i))] := hl
    refine lv_iinc (v := (nI (i + 1))) (lv' := [(3, .int (nI (i + 1))), (0, .ref h0), (1, .int value), (2, .int ((p_seu n value i q).1))]) C.x C.b dX1_separated_73 hl (k := 3) rfl (nI_1 i) (by decide) rfl (fun ls hl => ?_)
    refine lv_goto (tgt := 27) C.x C.b dX1_separated_76 (by decide) ?_
    exact ih (i + 1) (p_seu n value i q) H locs ls (by omega) (by intro j hj; rw [show (p_seu n value i q).2 3 = q.2 3 from lp_keep2 (f := p_sev n value i) (fun i s => p_lb_k (by decide) (by decide) (by decide) s.2) _ _ _]; exact hL j hj) G (lv_sub hl [1, 2, 3, 0] rfl) kk
set_option maxHeartbeats 2000000 in
theorem m1_separated (l : Launch) (D : va_G) (dI dZ : ClassId) (h0 : Nat) (ad : Nat → Nat) (n : Nat) (hn : n ≤ 9) (σ : g_St) : g_Mi l D dI dZ (g1_w dI dZ h0 ad n) h0 yX1_separated cX1_separated 6 .int 4 88 [] σ (fun r τ => r = (p_se n σ).1 ∧ τ = (p_se n σ).2) := by
  refine g_starti (own := RX1) (by decide +kernel) rfl (Nat.le_of_ble_eq_true rfl) ?_
  intro p e s m below meth c A ls hr hlk hA C G hl
  replace hl : lv_has ls 6 [(0, .ref h0)] := hl
  refine lv_aload_n C.x C.b dX1_separated_0 rfl (lv_at hl 0 rfl) ?_
  refine g_calli (As := []) (rest := []) C G hA (m1_least l D dI dZ h0 ad n hn σ) (cw11_least C.t (by decide) (by decide)) rfl ⟨0, _, _, rfl, rfl, rfl⟩ hl.1 (Nat.le_of_ble_eq_true rfl) rfl dX1_separated_1 (fun r σ1 H locs hw G => ?_)
  obtain ⟨rfl, rfl⟩ := hw
  refine lv_istore_n (lv' := [(1, .int ((p_least n σ).1)), (0, .ref h0)]) C.x C.b dX1_separated_4 rfl hl (by decide) rfl (fun ls hl => ?_)
  refine lv_iload_n C.x C.b dX1_separated_5 rfl (lv_at hl 0 rfl) ?_
  refine lv_bipush (v := (-3)) C.x C.b dX1_separated_6 (by decide) ?_
  refine lv_icmp_ne (tgt := 13) C.x C.b dX1_separated_8 (by decide) (fun c8 => ?_) (fun c8 => ?_)
  · refine lv_aload_n C.x C.b dX1_separated_13 rfl (lv_at hl 1 rfl) ?_
    refine lv_iconst (v := (-1)) C.x C.b dX1_separated_14 (by decide) ?_
    refine g_callv (As := [.int (-1)]) (rest := []) C G hA (m1_startLabels l D dI dZ h0 ad n hn (p_least n σ).2 (-1)) (cw11_startLabels C.t (by decide) (by decide)) rfl ⟨0, _, _, rfl, rfl, rfl⟩ hl.1 (Nat.le_of_ble_eq_true rfl) rfl dX1_separated_15 (fun σ1 H locs hw G => ?_)
    have hw : σ1 = (p_sl n (-1) (p_least n σ).2) := hw
    subst hw
    refine lv_aload_n C.x C.b dX1_separated_18 rfl (lv_at hl 1 rfl) ?_
    refine lv_iconst (v := (-1)) C.x C.b dX1_separated_19 (by decide) ?_
    refine g_callv (As := [.int (-1)]) (rest := []) C G hA (m1_sumWeights l D dI dZ h0 ad n hn (p_sl n (-1) (p_least n σ).2) (-1) (fun j hj => (p_sl_in j hj).mono hn)) (cw11_sumWeights C.t (by decide) (by decide)) rfl ⟨0, _, _, rfl, rfl, rfl⟩ hl.1 (Nat.le_of_ble_eq_true rfl) rfl dX1_separated_20 (fun σ1 H locs hw G => ?_)
    have hw : σ1 = (p_prep n (-1) (p_least n σ).2) := hw
    subst hw
    have hL : ∀ j, j < n → g_in n (p_prep n (-1) (p_least n σ).2 3 j) := by intro j hj; unfold p_prep; rw [p_sw_k (by decide) (by decide) (by decide)]; exact p_sl_in j hj
    refine lv_iconst (v := 0) C.x C.b dX1_separated_23 (by decide) ?_
    refine lv_istore_n (lv' := [(2, .int 0), (1, .int ((p_least n σ).1)), (0, .ref h0)]) C.x C.b dX1_separated_24 rfl hl (by decide) rfl (fun ls hl => ?_)
    refine lv_iconst (v := (nI 0)) C.x C.b dX1_separated_25 (by decide) ?_
    refine lv_istore_n (lv' := [(3, .int (nI 0)), (2, .int 0), (1, .int ((p_least n σ).1)), (0, .ref h0)]) C.x C.b dX1_separated_26 rfl hl (by decide) rfl (fun ls hl => ?_)
    refine w_se1 C hn hA (by decide) (by decide) n 0 (0, p_prep n (-1) (p_least n σ).2) _ _ _ (by omega) hL G (lv_sub hl [3, 2, 1, 0] rfl) (fun H locs ls G hl => ?_)
    refine lv_iload_n C.x C.b dX1_separated_79 rfl (lv_at hl 1 rfl) ?_
    exact g_iret C G hr hlk ⟨by unfold p_se; rw [if_pos c8], by unfold p_se; rw [if_pos c8]⟩ dX1_separated_80
  · refine lv_iconst (v := 0) C.x C.b dX1_separated_11 (by decide) ?_
    exact g_iret C G hr hlk ⟨by unfold p_se; rw [if_neg (not_not_intro c8)], by unfold p_se; rw [if_neg (not_not_intro c8)]⟩ dX1_separated_12
set_option maxHeartbeats 2000000 in
theorem m1_without (l : Launch) (D : va_G) (dI dZ : ClassId) (h0 : Nat) (ad : Nat → Nat) (n : Nat) (hn : n ≤ 9) (σ : g_St) (v : Int32) : g_Mi l D dI dZ (g1_w dI dZ h0 ad n) h0 yX1_without cX1_without 2 .int 3 68 [.int v] σ (fun r τ => r = (p_wo n v σ).1 ∧ τ = (p_wo n v σ).2) := by
  refine g_starti (own := RX1) (by decide +kernel) rfl (Nat.le_of_ble_eq_true rfl) ?_
  intro p e s m below meth c A ls hr hlk hA C G hl
  replace hl : lv_has ls 2 [(0, .ref h0), (1, .int v)] := hl
  refine lv_iload_n C.x C.b dX1_without_0 rfl (lv_at hl 1 rfl) ?_
  refine lv_if_lt (tgt := 12) C.x C.b dX1_without_1 (by decide) (fun c1 => ?_) (fun c1 => ?_)
  · refine lv_iconst (v := (-1)) C.x C.b dX1_without_12 (by decide) ?_
    exact g_iret C G hr hlk ⟨by unfold p_wo; rw [if_pos c1], by unfold p_wo; rw [if_pos c1]⟩ dX1_without_13
  · refine lv_iload_n C.x C.b dX1_without_4 rfl (lv_at hl 1 rfl) ?_
    refine g1_f0 C G (lv_at hl 0 rfl) dX1_without_5 dX1_without_6 ?_
    refine lv_icmp_lt (tgt := 14) C.x C.b dX1_without_9 (by decide) (fun c9 => ?_) (fun c9 => ?_)
    · refine lv_aload_n C.x C.b dX1_without_14 rfl (lv_at hl 0 rfl) ?_
      refine lv_iload_n C.x C.b dX1_without_15 rfl (lv_at hl 1 rfl) ?_
      refine g_callv (As := [.int v]) (rest := []) C G hA (m1_startLabels l D dI dZ h0 ad n hn σ v) (cw11_startLabels C.t (by decide) (by decide)) rfl ⟨0, _, _, rfl, rfl, rfl⟩ hl.1 (Nat.le_of_ble_eq_true rfl) rfl dX1_without_16 (fun σ1 H locs hw G => ?_)
      have hw : σ1 = (p_sl n v σ) := hw
      subst hw
      refine lv_aload_n C.x C.b dX1_without_19 rfl (lv_at hl 0 rfl) ?_
      refine lv_iload_n C.x C.b dX1_without_20 rfl (lv_at hl 1 rfl) ?_
      refine g_callv (As := [.int v]) (rest := []) C G hA (m1_sumWeights l D dI dZ h0 ad n hn (p_sl n v σ) v (fun j hj => (p_sl_in j hj).mono hn)) (cw11_sumWeights C.t (by decide) (by decide)) rfl ⟨0, _, _, rfl, rfl, rfl⟩ hl.1 (Nat.le_of_ble_eq_true rfl) rfl dX1_without_21 (fun σ1 H locs hw G => ?_)
      have hw : σ1 = (p_prep n v σ) := hw
      subst hw
      refine lv_aload_n C.x C.b dX1_without_24 rfl (lv_at hl 0 rfl) ?_
      refine g_calli (As := []) (rest := []) C G hA (m1_leastOfGroups l D dI dZ h0 ad n hn (p_prep n v σ) (p_sw_g hn)) (cw11_leastOfGroups C.t (by decide) (by decide)) rfl ⟨0, _, _, rfl, rfl, rfl⟩ hl.1 (Nat.le_of_ble_eq_true rfl) rfl dX1_without_25 (fun r σ1 H locs hw G => ?_)
      obtain ⟨rfl, rfl⟩ := hw
      exact g_iret C G hr hlk ⟨by unfold p_wo; rw [if_neg c1, if_pos c9], by unfold p_wo; rw [if_neg c1, if_pos c9]⟩ dX1_without_28
    · refine lv_iconst (v := (-1)) C.x C.b dX1_without_12 (by decide) ?_
      exact g_iret C G hr hlk ⟨by unfold p_wo; rw [if_neg c1, if_neg c9], by unfold p_wo; rw [if_neg c1, if_neg c9]⟩ dX1_without_13
set_option maxHeartbeats 2000000 in
theorem m1_weight (l : Launch) (D : va_G) (dI dZ : ClassId) (h0 : Nat) (ad : Nat → Nat) (n : Nat) (hn : n ≤ 9) (σ : g_St) (u v x : Int32) : g_Mi l D dI dZ (g1_w dI dZ h0 ad n) h0 yX1_weight cX1_weight 5 .int 1 22 [.int u, .int v, .int x] σ (fun r τ => r = (p_wt n u v x σ).1 ∧ τ = (p_wt n u v x σ).2) := by
  refine g_starti (own := RX1) (by decide +kernel) rfl (Nat.le_of_ble_eq_true rfl) ?_
  intro p e s m below meth c A ls hr hlk hA C G hl
  replace hl : lv_has ls 5 [(0, .ref h0), (1, .int u), (2, .int v), (3, .int x)] := hl
  refine lv_aload_n C.x C.b dX1_weight_0 rfl (lv_at hl 0 rfl) ?_
  refine lv_iload_n C.x C.b dX1_weight_1 rfl (lv_at hl 1 rfl) ?_
  refine lv_iload_n C.x C.b dX1_weight_2 rfl (lv_at hl 2 rfl) ?_
  refine g_calli (As := [.int u, .int v]) (rest := []) C G hA (m1_badPair l D dI dZ h0 ad n hn σ u v) (cw11_badPair C.t (by decide) (by decide)) rfl ⟨0, _, _, rfl, rfl, rfl⟩ hl.1 (Nat.le_of_ble_eq_true rfl) rfl dX1_weight_3 (fun r σ1 H locs hw G => ?_)
  obtain ⟨rfl, hw2⟩ := hw
  rw [hw2] at G
  clear hw2
  refine lv_if_eq (tgt := 11) C.x C.b dX1_weight_6 (by decide) (fun c6 => ?_) (fun c6 => ?_)
  · obtain ⟨⟨a, ha, rfl⟩, ⟨b, hb, rfl⟩, hne⟩ := p_bp_0 hn c6
    refine lv_iload_n C.x C.b dX1_weight_11 rfl (lv_at hl 3 rfl) ?_
    refine lv_if_lt (tgt := 21) C.x C.b dX1_weight_12 (by decide) (fun c12 => ?_) (fun c12 => ?_)
    · refine lv_bipush (v := (-2)) C.x C.b dX1_weight_21 (by decide) ?_
      exact g_iret C G hr hlk ⟨by unfold p_wt; rw [nx_nI (by omega), nx_nI (by omega), if_pos c6, if_pos c12], by unfold p_wt; rw [nx_nI (by omega), nx_nI (by omega), if_pos c6, if_pos c12]⟩ dX1_weight_23
    · refine lv_iload_n C.x C.b dX1_weight_15 rfl (lv_at hl 3 rfl) ?_
      refine lv_bipush (v := 50) C.x C.b dX1_weight_16 (by decide) ?_
      refine lv_icmp_le (tgt := 24) C.x C.b dX1_weight_18 (by decide) (fun c18 => ?_) (fun c18 => ?_)
      · refine g1_f1 C G (lv_at hl 0 rfl) dX1_weight_24 dX1_weight_25 ?_
        refine lv_iload_n C.x C.b dX1_weight_28 rfl (lv_at hl 1 rfl) ?_
        refine lv_bipush (v := 9) C.x C.b dX1_weight_29 (by decide) ?_
        refine lv_imul C.x C.b dX1_weight_31 ?_
        refine lv_iload_n C.x C.b dX1_weight_32 rfl (lv_at hl 2 rfl) ?_
        refine lv_iadd C.x C.b dX1_weight_33 ?_
        refine g1_l1 C G (a * 9 + b) (by omega) (g_ixx rfl rfl) dX1_weight_34 ?_
        refine lv_istore (lv' := [(4, .int (σ 1 (a * 9 + b))), (0, .ref h0), (1, .int (nI a)), (2, .int (nI b)), (3, .int x)]) C.x C.b dX1_weight_35 hl (by decide) rfl (fun ls hl => ?_)
        refine g1_f1 C G (lv_at hl 1 rfl) dX1_weight_37 dX1_weight_38 ?_
        refine lv_iload_n C.x C.b dX1_weight_41 rfl (lv_at hl 2 rfl) ?_
        refine lv_bipush (v := 9) C.x C.b dX1_weight_42 (by decide) ?_
        refine lv_imul C.x C.b dX1_weight_44 ?_
        refine lv_iload_n C.x C.b dX1_weight_45 rfl (lv_at hl 3 rfl) ?_
        refine lv_iadd C.x C.b dX1_weight_46 ?_
        refine lv_iload_n C.x C.b dX1_weight_47 rfl (lv_at hl 4 rfl) ?_
        refine g1_s1 C G (a * 9 + b) (by omega) (g_ixx rfl rfl) dX1_weight_48 (fun H locs G => ?_)
        refine g1_f1 C G (lv_at hl 1 rfl) dX1_weight_49 dX1_weight_50 ?_
        refine lv_iload_n C.x C.b dX1_weight_53 rfl (lv_at hl 3 rfl) ?_
        refine lv_bipush (v := 9) C.x C.b dX1_weight_54 (by decide) ?_
        refine lv_imul C.x C.b dX1_weight_56 ?_
        refine lv_iload_n C.x C.b dX1_weight_57 rfl (lv_at hl 2 rfl) ?_
        refine lv_iadd C.x C.b dX1_weight_58 ?_
        refine lv_iload_n C.x C.b dX1_weight_59 rfl (lv_at hl 4 rfl) ?_
        refine g1_s1 C G (b * 9 + a) (by omega) (g_ixx rfl rfl) dX1_weight_60 (fun H locs G => ?_)
        refine lv_iload C.x C.b dX1_weight_61 (lv_at hl 0 rfl) ?_
        exact g_iret C G hr hlk ⟨by unfold p_wt; rw [nx_nI (by omega), nx_nI (by omega), if_pos c6, if_neg c12, if_pos c18], by unfold p_wt; rw [nx_nI (by omega), nx_nI (by omega), if_pos c6, if_neg c12, if_pos c18]⟩ dX1_weight_63
      · refine lv_bipush (v := (-2)) C.x C.b dX1_weight_21 (by decide) ?_
        exact g_iret C G hr hlk ⟨by unfold p_wt; rw [nx_nI (by omega), nx_nI (by omega), if_pos c6, if_neg c12, if_neg c18], by unfold p_wt; rw [nx_nI (by omega), nx_nI (by omega), if_pos c6, if_neg c12, if_neg c18]⟩ dX1_weight_23
  · refine lv_iconst (v := (-1)) C.x C.b dX1_weight_9 (by decide) ?_
    exact g_iret C G hr hlk ⟨by unfold p_wt; rw [if_neg c6], by unfold p_wt; rw [if_neg c6]⟩ dX1_weight_10
set_option maxHeartbeats 2000000 in
theorem m1_change (l : Launch) (D : va_G) (dI dZ : ClassId) (h0 : Nat) (ad : Nat → Nat) (n : Nat) (hn : n ≤ 9) (σ : g_St) (u v x : Int32) : g_Mi l D dI dZ (g1_w dI dZ h0 ad n) h0 yX1_change cX1_change 6 .int 1 22 [.int u, .int v, .int x] σ (fun r τ => r = (p_ch n u v x σ).1 ∧ τ = (p_ch n u v x σ).2) := by
  refine g_starti (own := RX1) (by decide +kernel) rfl (Nat.le_of_ble_eq_true rfl) ?_
  intro p e s m below meth c A ls hr hlk hA C G hl
  replace hl : lv_has ls 6 [(0, .ref h0), (1, .int u), (2, .int v), (3, .int x)] := hl
  refine lv_aload_n C.x C.b dX1_change_0 rfl (lv_at hl 0 rfl) ?_
  refine lv_iload_n C.x C.b dX1_change_1 rfl (lv_at hl 1 rfl) ?_
  refine lv_iload_n C.x C.b dX1_change_2 rfl (lv_at hl 2 rfl) ?_
  refine g_calli (As := [.int u, .int v]) (rest := []) C G hA (m1_badPair l D dI dZ h0 ad n hn σ u v) (cw11_badPair C.t (by decide) (by decide)) rfl ⟨0, _, _, rfl, rfl, rfl⟩ hl.1 (Nat.le_of_ble_eq_true rfl) rfl dX1_change_3 (fun r σ1 H locs hw G => ?_)
  obtain ⟨rfl, hw2⟩ := hw
  rw [hw2] at G
  clear hw2
  refine lv_if_eq (tgt := 11) C.x C.b dX1_change_6 (by decide) (fun c6 => ?_) (fun c6 => ?_)
  · obtain ⟨⟨a, ha, rfl⟩, ⟨b, hb, rfl⟩, hne⟩ := p_bp_0 hn c6
    refine g1_f1 C G (lv_at hl 0 rfl) dX1_change_11 dX1_change_12 ?_
    refine lv_iload_n C.x C.b dX1_change_15 rfl (lv_at hl 1 rfl) ?_
    refine lv_bipush (v := 9) C.x C.b dX1_change_16 (by decide) ?_
    refine lv_imul C.x C.b dX1_change_18 ?_
    refine lv_iload_n C.x C.b dX1_change_19 rfl (lv_at hl 2 rfl) ?_
    refine lv_iadd C.x C.b dX1_change_20 ?_
    refine g1_l1 C G (a * 9 + b) (by omega) (g_ixx rfl rfl) dX1_change_21 ?_
    refine lv_istore (lv' := [(4, .int (σ 1 (a * 9 + b))), (0, .ref h0), (1, .int (nI a)), (2, .int (nI b)), (3, .int x)]) C.x C.b dX1_change_22 hl (by decide) rfl (fun ls hl => ?_)
    refine lv_iload C.x C.b dX1_change_24 (lv_at hl 0 rfl) ?_
    refine lv_istore (lv' := [(5, .int (σ 1 (a * 9 + b))), (4, .int (σ 1 (a * 9 + b))), (0, .ref h0), (1, .int (nI a)), (2, .int (nI b)), (3, .int x)]) C.x C.b dX1_change_26 hl (by decide) rfl (fun ls hl => ?_)
    refine lv_iload_n C.x C.b dX1_change_28 rfl (lv_at hl 5 rfl) ?_
    refine lv_if_le (tgt := 52) C.x C.b dX1_change_29 (by decide) (fun c29 => ?_) (fun c29 => ?_)
    · refine lv_iload_n C.x C.b dX1_change_52 rfl (lv_at hl 5 rfl) ?_
      refine lv_if_ge (tgt := 73) C.x C.b dX1_change_53 (by decide) (fun c53 => ?_) (fun c53 => ?_)
      · refine g1_f1 C G (lv_at hl 2 rfl) dX1_change_73 dX1_change_74 ?_
        refine lv_iload_n C.x C.b dX1_change_77 rfl (lv_at hl 3 rfl) ?_
        refine lv_bipush (v := 9) C.x C.b dX1_change_78 (by decide) ?_
        refine lv_imul C.x C.b dX1_change_80 ?_
        refine lv_iload_n C.x C.b dX1_change_81 rfl (lv_at hl 4 rfl) ?_
        refine lv_iadd C.x C.b dX1_change_82 ?_
        refine lv_iload C.x C.b dX1_change_83 (lv_at hl 0 rfl) ?_
        refine g1_s1 C G (a * 9 + b) (by omega) (g_ixx rfl rfl) dX1_change_85 (fun H locs G => ?_)
        refine g1_f1 C G (lv_at hl 2 rfl) dX1_change_86 dX1_change_87 ?_
        refine lv_iload_n C.x C.b dX1_change_90 rfl (lv_at hl 4 rfl) ?_
        refine lv_bipush (v := 9) C.x C.b dX1_change_91 (by decide) ?_
        refine lv_imul C.x C.b dX1_change_93 ?_
        refine lv_iload_n C.x C.b dX1_change_94 rfl (lv_at hl 3 rfl) ?_
        refine lv_iadd C.x C.b dX1_change_95 ?_
        refine lv_iload C.x C.b dX1_change_96 (lv_at hl 0 rfl) ?_
        refine g1_s1 C G (b * 9 + a) (by omega) (g_ixx rfl rfl) dX1_change_98 (fun H locs G => ?_)
        refine lv_iload C.x C.b dX1_change_99 (lv_at hl 0 rfl) ?_
        have ev : p_chv (σ 1 (a * 9 + b)) x = (σ 1 (a * 9 + b)) := by unfold p_chv; rw [if_pos c29, if_pos c53]
        exact g_iret C G hr hlk ⟨by unfold p_ch; rw [nx_nI (by omega), nx_nI (by omega), if_pos c6, ev], by unfold p_ch; rw [nx_nI (by omega), nx_nI (by omega), if_pos c6, ev]⟩ dX1_change_101
      · refine lv_iload_n C.x C.b dX1_change_56 rfl (lv_at hl 5 rfl) ?_
        refine lv_iload C.x C.b dX1_change_57 (lv_at hl 1 rfl) ?_
        refine lv_ineg C.x C.b dX1_change_59 ?_
        refine lv_icmp_ge (tgt := 67) C.x C.b dX1_change_60 (by decide) (fun c60 => ?_) (fun c60 => ?_)
        · refine lv_iload C.x C.b dX1_change_67 (lv_at hl 1 rfl) ?_
          refine lv_iload_n C.x C.b dX1_change_69 rfl (lv_at hl 5 rfl) ?_
          refine lv_iadd C.x C.b dX1_change_70 ?_
          refine lv_istore (lv' := [(5, .int ((σ 1 (a * 9 + b)) + x)), (4, .int (σ 1 (a * 9 + b))), (0, .ref h0), (1, .int (nI a)), (2, .int (nI b)), (3, .int x)]) C.x C.b dX1_change_71 hl (by decide) rfl (fun ls hl => ?_)
          refine g1_f1 C G (lv_at hl 2 rfl) dX1_change_73 dX1_change_74 ?_
          refine lv_iload_n C.x C.b dX1_change_77 rfl (lv_at hl 3 rfl) ?_
          refine lv_bipush (v := 9) C.x C.b dX1_change_78 (by decide) ?_
          refine lv_imul C.x C.b dX1_change_80 ?_
          refine lv_iload_n C.x C.b dX1_change_81 rfl (lv_at hl 4 rfl) ?_
          refine lv_iadd C.x C.b dX1_change_82 ?_
          refine lv_iload C.x C.b dX1_change_83 (lv_at hl 0 rfl) ?_
          refine g1_s1 C G (a * 9 + b) (by omega) (g_ixx rfl rfl) dX1_change_85 (fun H locs G => ?_)
          refine g1_f1 C G (lv_at hl 2 rfl) dX1_change_86 dX1_change_87 ?_
          refine lv_iload_n C.x C.b dX1_change_90 rfl (lv_at hl 4 rfl) ?_
          refine lv_bipush (v := 9) C.x C.b dX1_change_91 (by decide) ?_
          refine lv_imul C.x C.b dX1_change_93 ?_
          refine lv_iload_n C.x C.b dX1_change_94 rfl (lv_at hl 3 rfl) ?_
          refine lv_iadd C.x C.b dX1_change_95 ?_
          refine lv_iload C.x C.b dX1_change_96 (lv_at hl 0 rfl) ?_
          refine g1_s1 C G (b * 9 + a) (by omega) (g_ixx rfl rfl) dX1_change_98 (fun H locs G => ?_)
          refine lv_iload C.x C.b dX1_change_99 (lv_at hl 0 rfl) ?_
          have ev : p_chv (σ 1 (a * 9 + b)) x = ((σ 1 (a * 9 + b)) + x) := by unfold p_chv; rw [if_pos c29, if_neg c53, if_pos c60]
          exact g_iret C G hr hlk ⟨by unfold p_ch; rw [nx_nI (by omega), nx_nI (by omega), if_pos c6, ev], by unfold p_ch; rw [nx_nI (by omega), nx_nI (by omega), if_pos c6, ev]⟩ dX1_change_101
        · refine lv_iconst (v := 0) C.x C.b dX1_change_63 (by decide) ?_
          refine lv_goto (tgt := 71) C.x C.b dX1_change_64 (by decide) ?_
          refine lv_istore (lv' := [(5, .int 0), (4, .int (σ 1 (a * 9 + b))), (0, .ref h0), (1, .int (nI a)), (2, .int (nI b)), (3, .int x)]) C.x C.b dX1_change_71 hl (by decide) rfl (fun ls hl => ?_)
          refine g1_f1 C G (lv_at hl 2 rfl) dX1_change_73 dX1_change_74 ?_
          refine lv_iload_n C.x C.b dX1_change_77 rfl (lv_at hl 3 rfl) ?_
          refine lv_bipush (v := 9) C.x C.b dX1_change_78 (by decide) ?_
          refine lv_imul C.x C.b dX1_change_80 ?_
          refine lv_iload_n C.x C.b dX1_change_81 rfl (lv_at hl 4 rfl) ?_
          refine lv_iadd C.x C.b dX1_change_82 ?_
          refine lv_iload C.x C.b dX1_change_83 (lv_at hl 0 rfl) ?_
          refine g1_s1 C G (a * 9 + b) (by omega) (g_ixx rfl rfl) dX1_change_85 (fun H locs G => ?_)
          refine g1_f1 C G (lv_at hl 2 rfl) dX1_change_86 dX1_change_87 ?_
          refine lv_iload_n C.x C.b dX1_change_90 rfl (lv_at hl 4 rfl) ?_
          refine lv_bipush (v := 9) C.x C.b dX1_change_91 (by decide) ?_
          refine lv_imul C.x C.b dX1_change_93 ?_
          refine lv_iload_n C.x C.b dX1_change_94 rfl (lv_at hl 3 rfl) ?_
          refine lv_iadd C.x C.b dX1_change_95 ?_
          refine lv_iload C.x C.b dX1_change_96 (lv_at hl 0 rfl) ?_
          refine g1_s1 C G (b * 9 + a) (by omega) (g_ixx rfl rfl) dX1_change_98 (fun H locs G => ?_)
          refine lv_iload C.x C.b dX1_change_99 (lv_at hl 0 rfl) ?_
          have ev : p_chv (σ 1 (a * 9 + b)) x = 0 := by unfold p_chv; rw [if_pos c29, if_neg c53, if_neg c60]
          exact g_iret C G hr hlk ⟨by unfold p_ch; rw [nx_nI (by omega), nx_nI (by omega), if_pos c6, ev], by unfold p_ch; rw [nx_nI (by omega), nx_nI (by omega), if_pos c6, ev]⟩ dX1_change_101
    · refine lv_iload_n C.x C.b dX1_change_32 rfl (lv_at hl 5 rfl) ?_
      refine lv_bipush (v := 50) C.x C.b dX1_change_33 (by decide) ?_
      refine lv_iload C.x C.b dX1_change_35 (lv_at hl 1 rfl) ?_
      refine lv_isub C.x C.b dX1_change_37 ?_
      refine lv_icmp_le (tgt := 46) C.x C.b dX1_change_38 (by decide) (fun c38 => ?_) (fun c38 => ?_)
      · refine lv_iload C.x C.b dX1_change_46 (lv_at hl 1 rfl) ?_
        refine lv_iload_n C.x C.b dX1_change_48 rfl (lv_at hl 5 rfl) ?_
        refine lv_iadd C.x C.b dX1_change_49 ?_
        refine lv_istore (lv' := [(5, .int ((σ 1 (a * 9 + b)) + x)), (4, .int (σ 1 (a * 9 + b))), (0, .ref h0), (1, .int (nI a)), (2, .int (nI b)), (3, .int x)]) C.x C.b dX1_change_50 hl (by decide) rfl (fun ls hl => ?_)
        refine lv_iload_n C.x C.b dX1_change_52 rfl (lv_at hl 5 rfl) ?_
        refine lv_if_ge (tgt := 73) C.x C.b dX1_change_53 (by decide) (fun c53 => ?_) (fun c53 => ?_)
        · refine g1_f1 C G (lv_at hl 2 rfl) dX1_change_73 dX1_change_74 ?_
          refine lv_iload_n C.x C.b dX1_change_77 rfl (lv_at hl 3 rfl) ?_
          refine lv_bipush (v := 9) C.x C.b dX1_change_78 (by decide) ?_
          refine lv_imul C.x C.b dX1_change_80 ?_
          refine lv_iload_n C.x C.b dX1_change_81 rfl (lv_at hl 4 rfl) ?_
          refine lv_iadd C.x C.b dX1_change_82 ?_
          refine lv_iload C.x C.b dX1_change_83 (lv_at hl 0 rfl) ?_
          refine g1_s1 C G (a * 9 + b) (by omega) (g_ixx rfl rfl) dX1_change_85 (fun H locs G => ?_)
          refine g1_f1 C G (lv_at hl 2 rfl) dX1_change_86 dX1_change_87 ?_
          refine lv_iload_n C.x C.b dX1_change_90 rfl (lv_at hl 4 rfl) ?_
          refine lv_bipush (v := 9) C.x C.b dX1_change_91 (by decide) ?_
          refine lv_imul C.x C.b dX1_change_93 ?_
          refine lv_iload_n C.x C.b dX1_change_94 rfl (lv_at hl 3 rfl) ?_
          refine lv_iadd C.x C.b dX1_change_95 ?_
          refine lv_iload C.x C.b dX1_change_96 (lv_at hl 0 rfl) ?_
          refine g1_s1 C G (b * 9 + a) (by omega) (g_ixx rfl rfl) dX1_change_98 (fun H locs G => ?_)
          refine lv_iload C.x C.b dX1_change_99 (lv_at hl 0 rfl) ?_
          have ev : p_chv (σ 1 (a * 9 + b)) x = ((σ 1 (a * 9 + b)) + x) := by unfold p_chv; rw [if_neg c29, if_pos c38, if_pos c53]
          exact g_iret C G hr hlk ⟨by unfold p_ch; rw [nx_nI (by omega), nx_nI (by omega), if_pos c6, ev], by unfold p_ch; rw [nx_nI (by omega), nx_nI (by omega), if_pos c6, ev]⟩ dX1_change_101
        · refine lv_iload_n C.x C.b dX1_change_56 rfl (lv_at hl 5 rfl) ?_
          refine lv_iload C.x C.b dX1_change_57 (lv_at hl 1 rfl) ?_
          refine lv_ineg C.x C.b dX1_change_59 ?_
          refine lv_icmp_ge (tgt := 67) C.x C.b dX1_change_60 (by decide) (fun c60 => ?_) (fun c60 => ?_)
          · refine lv_iload C.x C.b dX1_change_67 (lv_at hl 1 rfl) ?_
            refine lv_iload_n C.x C.b dX1_change_69 rfl (lv_at hl 5 rfl) ?_
            refine lv_iadd C.x C.b dX1_change_70 ?_
            refine lv_istore (lv' := [(5, .int ((σ 1 (a * 9 + b)) + x)), (4, .int (σ 1 (a * 9 + b))), (0, .ref h0), (1, .int (nI a)), (2, .int (nI b)), (3, .int x)]) C.x C.b dX1_change_71 hl (by decide) rfl (fun ls hl => ?_)
            refine g1_f1 C G (lv_at hl 2 rfl) dX1_change_73 dX1_change_74 ?_
            refine lv_iload_n C.x C.b dX1_change_77 rfl (lv_at hl 3 rfl) ?_
            refine lv_bipush (v := 9) C.x C.b dX1_change_78 (by decide) ?_
            refine lv_imul C.x C.b dX1_change_80 ?_
            refine lv_iload_n C.x C.b dX1_change_81 rfl (lv_at hl 4 rfl) ?_
            refine lv_iadd C.x C.b dX1_change_82 ?_
            refine lv_iload C.x C.b dX1_change_83 (lv_at hl 0 rfl) ?_
            refine g1_s1 C G (a * 9 + b) (by omega) (g_ixx rfl rfl) dX1_change_85 (fun H locs G => ?_)
            refine g1_f1 C G (lv_at hl 2 rfl) dX1_change_86 dX1_change_87 ?_
            refine lv_iload_n C.x C.b dX1_change_90 rfl (lv_at hl 4 rfl) ?_
            refine lv_bipush (v := 9) C.x C.b dX1_change_91 (by decide) ?_
            refine lv_imul C.x C.b dX1_change_93 ?_
            refine lv_iload_n C.x C.b dX1_change_94 rfl (lv_at hl 3 rfl) ?_
            refine lv_iadd C.x C.b dX1_change_95 ?_
            refine lv_iload C.x C.b dX1_change_96 (lv_at hl 0 rfl) ?_
            refine g1_s1 C G (b * 9 + a) (by omega) (g_ixx rfl rfl) dX1_change_98 (fun H locs G => ?_)
            refine lv_iload C.x C.b dX1_change_99 (lv_at hl 0 rfl) ?_
            have ev : p_chv (σ 1 (a * 9 + b)) x = ((σ 1 (a * 9 + b)) + x) := by unfold p_chv; rw [if_neg c29, if_pos c38, if_neg c53, if_pos c60]
            exact g_iret C G hr hlk ⟨by unfold p_ch; rw [nx_nI (by omega), nx_nI (by omega), if_pos c6, ev], by unfold p_ch; rw [nx_nI (by omega), nx_nI (by omega), if_pos c6, ev]⟩ dX1_change_101
          · refine lv_iconst (v := 0) C.x C.b dX1_change_63 (by decide) ?_
            refine lv_goto (tgt := 71) C.x C.b dX1_change_64 (by decide) ?_
            refine lv_istore (lv' := [(5, .int 0), (4, .int (σ 1 (a * 9 + b))), (0, .ref h0), (1, .int (nI a)), (2, .int (nI b)), (3, .int x)]) C.x C.b dX1_change_71 hl (by decide) rfl (fun ls hl => ?_)
            refine g1_f1 C G (lv_at hl 2 rfl) dX1_change_73 dX1_change_74 ?_
            refine lv_iload_n C.x C.b dX1_change_77 rfl (lv_at hl 3 rfl) ?_
            refine lv_bipush (v := 9) C.x C.b dX1_change_78 (by decide) ?_
            refine lv_imul C.x C.b dX1_change_80 ?_
            refine lv_iload_n C.x C.b dX1_change_81 rfl (lv_at hl 4 rfl) ?_
            refine lv_iadd C.x C.b dX1_change_82 ?_
            refine lv_iload C.x C.b dX1_change_83 (lv_at hl 0 rfl) ?_
            refine g1_s1 C G (a * 9 + b) (by omega) (g_ixx rfl rfl) dX1_change_85 (fun H locs G => ?_)
            refine g1_f1 C G (lv_at hl 2 rfl) dX1_change_86 dX1_change_87 ?_
            refine lv_iload_n C.x C.b dX1_change_90 rfl (lv_at hl 4 rfl) ?_
            refine lv_bipush (v := 9) C.x C.b dX1_change_91 (by decide) ?_
            refine lv_imul C.x C.b dX1_change_93 ?_
            refine lv_iload_n C.x C.b dX1_change_94 rfl (lv_at hl 3 rfl) ?_
            refine lv_iadd C.x C.b dX1_change_95 ?_
            refine lv_iload C.x C.b dX1_change_96 (lv_at hl 0 rfl) ?_
            refine g1_s1 C G (b * 9 + a) (by omega) (g_ixx rfl rfl) dX1_change_98 (fun H locs G => ?_)
            refine lv_iload C.x C.b dX1_change_99 (lv_at hl 0 rfl) ?_
            have ev : p_chv (σ 1 (a * 9 + b)) x = 0 := by unfold p_chv; rw [if_neg c29, if_pos c38, if_neg c53, if_neg c60]
            exact g_iret C G hr hlk ⟨by unfold p_ch; rw [nx_nI (by omega), nx_nI (by omega), if_pos c6, ev], by unfold p_ch; rw [nx_nI (by omega), nx_nI (by omega), if_pos c6, ev]⟩ dX1_change_101
      · refine lv_bipush (v := 50) C.x C.b dX1_change_41 (by decide) ?_
        refine lv_goto (tgt := 50) C.x C.b dX1_change_43 (by decide) ?_
        refine lv_istore (lv' := [(5, .int 50), (4, .int (σ 1 (a * 9 + b))), (0, .ref h0), (1, .int (nI a)), (2, .int (nI b)), (3, .int x)]) C.x C.b dX1_change_50 hl (by decide) rfl (fun ls hl => ?_)
        refine lv_iload_n C.x C.b dX1_change_52 rfl (lv_at hl 5 rfl) ?_
        refine lv_if_ge (tgt := 73) C.x C.b dX1_change_53 (by decide) (fun c53 => ?_) (fun c53 => ?_)
        · refine g1_f1 C G (lv_at hl 2 rfl) dX1_change_73 dX1_change_74 ?_
          refine lv_iload_n C.x C.b dX1_change_77 rfl (lv_at hl 3 rfl) ?_
          refine lv_bipush (v := 9) C.x C.b dX1_change_78 (by decide) ?_
          refine lv_imul C.x C.b dX1_change_80 ?_
          refine lv_iload_n C.x C.b dX1_change_81 rfl (lv_at hl 4 rfl) ?_
          refine lv_iadd C.x C.b dX1_change_82 ?_
          refine lv_iload C.x C.b dX1_change_83 (lv_at hl 0 rfl) ?_
          refine g1_s1 C G (a * 9 + b) (by omega) (g_ixx rfl rfl) dX1_change_85 (fun H locs G => ?_)
          refine g1_f1 C G (lv_at hl 2 rfl) dX1_change_86 dX1_change_87 ?_
          refine lv_iload_n C.x C.b dX1_change_90 rfl (lv_at hl 4 rfl) ?_
          refine lv_bipush (v := 9) C.x C.b dX1_change_91 (by decide) ?_
          refine lv_imul C.x C.b dX1_change_93 ?_
          refine lv_iload_n C.x C.b dX1_change_94 rfl (lv_at hl 3 rfl) ?_
          refine lv_iadd C.x C.b dX1_change_95 ?_
          refine lv_iload C.x C.b dX1_change_96 (lv_at hl 0 rfl) ?_
          refine g1_s1 C G (b * 9 + a) (by omega) (g_ixx rfl rfl) dX1_change_98 (fun H locs G => ?_)
          refine lv_iload C.x C.b dX1_change_99 (lv_at hl 0 rfl) ?_
          have ev : p_chv (σ 1 (a * 9 + b)) x = 50 := by unfold p_chv; rw [if_neg c29, if_neg c38, if_pos c53]
          exact g_iret C G hr hlk ⟨by unfold p_ch; rw [nx_nI (by omega), nx_nI (by omega), if_pos c6, ev], by unfold p_ch; rw [nx_nI (by omega), nx_nI (by omega), if_pos c6, ev]⟩ dX1_change_101
        · refine lv_iload_n C.x C.b dX1_change_56 rfl (lv_at hl 5 rfl) ?_
          refine lv_iload C.x C.b dX1_change_57 (lv_at hl 1 rfl) ?_
          refine lv_ineg C.x C.b dX1_change_59 ?_
          refine lv_icmp_ge (tgt := 67) C.x C.b dX1_change_60 (by decide) (fun c60 => ?_) (fun c60 => ?_)
          · refine lv_iload C.x C.b dX1_change_67 (lv_at hl 1 rfl) ?_
            refine lv_iload_n C.x C.b dX1_change_69 rfl (lv_at hl 5 rfl) ?_
            refine lv_iadd C.x C.b dX1_change_70 ?_
            refine lv_istore (lv' := [(5, .int ((σ 1 (a * 9 + b)) + x)), (4, .int (σ 1 (a * 9 + b))), (0, .ref h0), (1, .int (nI a)), (2, .int (nI b)), (3, .int x)]) C.x C.b dX1_change_71 hl (by decide) rfl (fun ls hl => ?_)
            refine g1_f1 C G (lv_at hl 2 rfl) dX1_change_73 dX1_change_74 ?_
            refine lv_iload_n C.x C.b dX1_change_77 rfl (lv_at hl 3 rfl) ?_
            refine lv_bipush (v := 9) C.x C.b dX1_change_78 (by decide) ?_
            refine lv_imul C.x C.b dX1_change_80 ?_
            refine lv_iload_n C.x C.b dX1_change_81 rfl (lv_at hl 4 rfl) ?_
            refine lv_iadd C.x C.b dX1_change_82 ?_
            refine lv_iload C.x C.b dX1_change_83 (lv_at hl 0 rfl) ?_
            refine g1_s1 C G (a * 9 + b) (by omega) (g_ixx rfl rfl) dX1_change_85 (fun H locs G => ?_)
            refine g1_f1 C G (lv_at hl 2 rfl) dX1_change_86 dX1_change_87 ?_
            refine lv_iload_n C.x C.b dX1_change_90 rfl (lv_at hl 4 rfl) ?_
            refine lv_bipush (v := 9) C.x C.b dX1_change_91 (by decide) ?_
            refine lv_imul C.x C.b dX1_change_93 ?_
            refine lv_iload_n C.x C.b dX1_change_94 rfl (lv_at hl 3 rfl) ?_
            refine lv_iadd C.x C.b dX1_change_95 ?_
            refine lv_iload C.x C.b dX1_change_96 (lv_at hl 0 rfl) ?_
            refine g1_s1 C G (b * 9 + a) (by omega) (g_ixx rfl rfl) dX1_change_98 (fun H locs G => ?_)
            refine lv_iload C.x C.b dX1_change_99 (lv_at hl 0 rfl) ?_
            have ev : p_chv (σ 1 (a * 9 + b)) x = ((σ 1 (a * 9 + b)) + x) := by unfold p_chv; rw [if_neg c29, if_neg c38, if_neg c53, if_pos c60]
            exact g_iret C G hr hlk ⟨by unfold p_ch; rw [nx_nI (by omega), nx_nI (by omega), if_pos c6, ev], by unfold p_ch; rw [nx_nI (by omega), nx_nI (by omega), if_pos c6, ev]⟩ dX1_change_101
          · refine lv_iconst (v := 0) C.x C.b dX1_change_63 (by decide) ?_
            refine lv_goto (tgt := 71) C.x C.b dX1_change_64 (by decide) ?_
            refine lv_istore (lv' := [(5, .int 0), (4, .int (σ 1 (a * 9 + b))), (0, .ref h0), (1, .int (nI a)), (2, .int (nI b)), (3, .int x)]) C.x C.b dX1_change_71 hl (by decide) rfl (fun ls hl => ?_)
            refine g1_f1 C G (lv_at hl 2 rfl) dX1_change_73 dX1_change_74 ?_
            refine lv_iload_n C.x C.b dX1_change_77 rfl (lv_at hl 3 rfl) ?_
            refine lv_bipush (v := 9) C.x C.b dX1_change_78 (by decide) ?_
            refine lv_imul C.x C.b dX1_change_80 ?_
            refine lv_iload_n C.x C.b dX1_change_81 rfl (lv_at hl 4 rfl) ?_
            refine lv_iadd C.x C.b dX1_change_82 ?_
            refine lv_iload C.x C.b dX1_change_83 (lv_at hl 0 rfl) ?_
            refine g1_s1 C G (a * 9 + b) (by omega) (g_ixx rfl rfl) dX1_change_85 (fun H locs G => ?_)
            refine g1_f1 C G (lv_at hl 2 rfl) dX1_change_86 dX1_change_87 ?_
            refine lv_iload_n C.x C.b dX1_change_90 rfl (lv_at hl 4 rfl) ?_
            refine lv_bipush (v := 9) C.x C.b dX1_change_91 (by decide) ?_
            refine lv_imul C.x C.b dX1_change_93 ?_
            refine lv_iload_n C.x C.b dX1_change_94 rfl (lv_at hl 3 rfl) ?_
            refine lv_iadd C.x C.b dX1_change_95 ?_
            refine lv_iload C.x C.b dX1_change_96 (lv_at hl 0 rfl) ?_
            refine g1_s1 C G (b * 9 + a) (by omega) (g_ixx rfl rfl) dX1_change_98 (fun H locs G => ?_)
            refine lv_iload C.x C.b dX1_change_99 (lv_at hl 0 rfl) ?_
            have ev : p_chv (σ 1 (a * 9 + b)) x = 0 := by unfold p_chv; rw [if_neg c29, if_neg c38, if_neg c53, if_neg c60]
            exact g_iret C G hr hlk ⟨by unfold p_ch; rw [nx_nI (by omega), nx_nI (by omega), if_pos c6, ev], by unfold p_ch; rw [nx_nI (by omega), nx_nI (by omega), if_pos c6, ev]⟩ dX1_change_101
  · refine lv_iconst (v := (-1)) C.x C.b dX1_change_9 (by decide) ?_
    exact g_iret C G hr hlk ⟨by unfold p_ch; rw [if_neg c6], by unfold p_ch; rw [if_neg c6]⟩ dX1_change_10
set_option maxHeartbeats 2000000 in
theorem m1_glue (l : Launch) (D : va_G) (dI dZ : ClassId) (h0 : Nat) (ad : Nat → Nat) (n : Nat) (hn : n ≤ 9) (σ : g_St) (u v x : Int32) (hx : vp_nar .boolean x = x) : g_Mi l D dI dZ (g1_w dI dZ h0 ad n) h0 yX1_glue cX1_glue 5 .int 1 22 [.int u, .int v, .int x] σ (fun r τ => r = (p_gl n u v x σ).1 ∧ τ = (p_gl n u v x σ).2) := by
  refine g_starti (own := RX1) (by decide +kernel) rfl (Nat.le_of_ble_eq_true rfl) ?_
  intro p e s m below meth c A ls hr hlk hA C G hl
  replace hl : lv_has ls 5 [(0, .ref h0), (1, .int u), (2, .int v), (3, .int x)] := hl
  refine lv_aload_n C.x C.b dX1_glue_0 rfl (lv_at hl 0 rfl) ?_
  refine lv_iload_n C.x C.b dX1_glue_1 rfl (lv_at hl 1 rfl) ?_
  refine lv_iload_n C.x C.b dX1_glue_2 rfl (lv_at hl 2 rfl) ?_
  refine g_calli (As := [.int u, .int v]) (rest := []) C G hA (m1_badPair l D dI dZ h0 ad n hn σ u v) (cw11_badPair C.t (by decide) (by decide)) rfl ⟨0, _, _, rfl, rfl, rfl⟩ hl.1 (Nat.le_of_ble_eq_true rfl) rfl dX1_glue_3 (fun r σ1 H locs hw G => ?_)
  obtain ⟨rfl, hw2⟩ := hw
  rw [hw2] at G
  clear hw2
  refine lv_if_eq (tgt := 11) C.x C.b dX1_glue_6 (by decide) (fun c6 => ?_) (fun c6 => ?_)
  · obtain ⟨⟨a, ha, rfl⟩, ⟨b, hb, rfl⟩, hne⟩ := p_bp_0 hn c6
    refine g1_f2 C G (lv_at hl 0 rfl) dX1_glue_11 dX1_glue_12 ?_
    refine lv_iload_n C.x C.b dX1_glue_15 rfl (lv_at hl 1 rfl) ?_
    refine lv_bipush (v := 9) C.x C.b dX1_glue_16 (by decide) ?_
    refine lv_imul C.x C.b dX1_glue_18 ?_
    refine lv_iload_n C.x C.b dX1_glue_19 rfl (lv_at hl 2 rfl) ?_
    refine lv_iadd C.x C.b dX1_glue_20 ?_
    refine g1_l2 C G (a * 9 + b) (by omega) (g_ixx rfl rfl) dX1_glue_21 ?_
    refine lv_if_eq (tgt := 29) C.x C.b dX1_glue_22 (by decide) (fun c22 => ?_) (fun c22 => ?_)
    · refine lv_iconst (v := 0) C.x C.b dX1_glue_29 (by decide) ?_
      refine lv_istore (lv' := [(4, .int 0), (0, .ref h0), (1, .int (nI a)), (2, .int (nI b)), (3, .int x)]) C.x C.b dX1_glue_30 hl (by decide) rfl (fun ls hl => ?_)
      refine g1_f2 C G (lv_at hl 1 rfl) dX1_glue_32 dX1_glue_33 ?_
      refine lv_iload_n C.x C.b dX1_glue_36 rfl (lv_at hl 2 rfl) ?_
      refine lv_bipush (v := 9) C.x C.b dX1_glue_37 (by decide) ?_
      refine lv_imul C.x C.b dX1_glue_39 ?_
      refine lv_iload_n C.x C.b dX1_glue_40 rfl (lv_at hl 3 rfl) ?_
      refine lv_iadd C.x C.b dX1_glue_41 ?_
      refine lv_iload_n C.x C.b dX1_glue_42 rfl (lv_at hl 4 rfl) ?_
      refine g1_s2 C G (a * 9 + b) (by omega) (g_ixx rfl rfl) hx dX1_glue_43 (fun H locs G => ?_)
      refine g1_f2 C G (lv_at hl 1 rfl) dX1_glue_44 dX1_glue_45 ?_
      refine lv_iload_n C.x C.b dX1_glue_48 rfl (lv_at hl 3 rfl) ?_
      refine lv_bipush (v := 9) C.x C.b dX1_glue_49 (by decide) ?_
      refine lv_imul C.x C.b dX1_glue_51 ?_
      refine lv_iload_n C.x C.b dX1_glue_52 rfl (lv_at hl 2 rfl) ?_
      refine lv_iadd C.x C.b dX1_glue_53 ?_
      refine lv_iload_n C.x C.b dX1_glue_54 rfl (lv_at hl 4 rfl) ?_
      refine g1_s2 C G (b * 9 + a) (by omega) (g_ixx rfl rfl) hx dX1_glue_55 (fun H locs G => ?_)
      refine lv_iload C.x C.b dX1_glue_56 (lv_at hl 0 rfl) ?_
      exact g_iret C G hr hlk ⟨by unfold p_gl; rw [nx_nI (by omega), nx_nI (by omega), if_pos c6, if_pos c22], by unfold p_gl; rw [nx_nI (by omega), nx_nI (by omega), if_pos c6]⟩ dX1_glue_58
    · refine lv_iconst (v := 1) C.x C.b dX1_glue_25 (by decide) ?_
      refine lv_goto (tgt := 30) C.x C.b dX1_glue_26 (by decide) ?_
      refine lv_istore (lv' := [(4, .int 1), (0, .ref h0), (1, .int (nI a)), (2, .int (nI b)), (3, .int x)]) C.x C.b dX1_glue_30 hl (by decide) rfl (fun ls hl => ?_)
      refine g1_f2 C G (lv_at hl 1 rfl) dX1_glue_32 dX1_glue_33 ?_
      refine lv_iload_n C.x C.b dX1_glue_36 rfl (lv_at hl 2 rfl) ?_
      refine lv_bipush (v := 9) C.x C.b dX1_glue_37 (by decide) ?_
      refine lv_imul C.x C.b dX1_glue_39 ?_
      refine lv_iload_n C.x C.b dX1_glue_40 rfl (lv_at hl 3 rfl) ?_
      refine lv_iadd C.x C.b dX1_glue_41 ?_
      refine lv_iload_n C.x C.b dX1_glue_42 rfl (lv_at hl 4 rfl) ?_
      refine g1_s2 C G (a * 9 + b) (by omega) (g_ixx rfl rfl) hx dX1_glue_43 (fun H locs G => ?_)
      refine g1_f2 C G (lv_at hl 1 rfl) dX1_glue_44 dX1_glue_45 ?_
      refine lv_iload_n C.x C.b dX1_glue_48 rfl (lv_at hl 3 rfl) ?_
      refine lv_bipush (v := 9) C.x C.b dX1_glue_49 (by decide) ?_
      refine lv_imul C.x C.b dX1_glue_51 ?_
      refine lv_iload_n C.x C.b dX1_glue_52 rfl (lv_at hl 2 rfl) ?_
      refine lv_iadd C.x C.b dX1_glue_53 ?_
      refine lv_iload_n C.x C.b dX1_glue_54 rfl (lv_at hl 4 rfl) ?_
      refine g1_s2 C G (b * 9 + a) (by omega) (g_ixx rfl rfl) hx dX1_glue_55 (fun H locs G => ?_)
      refine lv_iload C.x C.b dX1_glue_56 (lv_at hl 0 rfl) ?_
      exact g_iret C G hr hlk ⟨by unfold p_gl; rw [nx_nI (by omega), nx_nI (by omega), if_pos c6, if_neg c22], by unfold p_gl; rw [nx_nI (by omega), nx_nI (by omega), if_pos c6]⟩ dX1_glue_58
  · refine lv_iconst (v := (-1)) C.x C.b dX1_glue_9 (by decide) ?_
    exact g_iret C G hr hlk ⟨by unfold p_gl; rw [if_neg c6], by unfold p_gl; rw [if_neg c6]⟩ dX1_glue_10
end W4
end
section
/-! what the model's methods compute -/
set_option maxRecDepth 100000
def r_sep (mask u v : Int32) : Int32 := if (mask >>> (u &&& 31)) &&& 1 = (mask >>> (v &&& 31)) &&& 1 then 0 else 1
def r_chv (old more : Int32) : Int32 := if 0 ≤ lg_cmp (old.toInt64 + more.toInt64) 0 then (if lg_cmp (old.toInt64 + more.toInt64) 50 ≤ 0 then (old.toInt64 + more.toInt64).toInt32 else 50) else 0
def r_ch (n : Nat) (u v x : Int32) (σ : g_St) : Int32 × g_St := if p_bp n u v = 0 then (r_chv (σ 1 (nx u * 9 + nx v)) x, g_up (g_up σ 1 (nx u * 9 + nx v) (r_chv (σ 1 (nx u * 9 + nx v)) x)) 1 (nx v * 9 + nx u) (r_chv (σ 1 (nx u * 9 + nx v)) x)) else (-1, σ)
-- allowed
def r_alv (σ : g_St) (mask out : Int32) (u : Nat) : Nat → Nat → Int32 → Option Int32
  | 0, _, x => some x
  | k + 1, i, x => if nI u = out then r_alv σ mask out u k (i + 1) x else if nI i = out then r_alv σ mask out u k (i + 1) x else if r_sep mask (nI u) (nI i) = 0 then r_alv σ mask out u k (i + 1) x else if σ 2 (u * 9 + i) = 0 then r_alv σ mask out u k (i + 1) (x + σ 1 (u * 9 + i)) else none
def r_alc (mask out : Int32) (u : Nat) (c : Int32 × Int32) : Int32 × Int32 := if nI u = out then c else (c.1 + ((mask >>> (nI u &&& 31)) &&& 1), c.2 + 1)
def r_alu (σ : g_St) (mask out : Int32) : Nat → Nat → Int32 → Int32 × Int32 → Option (Int32 × Int32 × Int32)
  | 0, _, x, c => some (x, c)
  | k + 1, u, x, c => match r_alv σ mask out u u 0 x with
    | none => none
    | some y => r_alu σ mask out k (u + 1) y (r_alc mask out u c)
def r_al (n : Nat) (mask out : Int32) (σ : g_St) : Int32 := match r_alu σ mask out n 0 0 (0, 0) with
  | none => -3
  | some q => if q.2.1 = 0 then -3 else if ¬ q.2.1 = q.2.2 then q.1 else -3
-- leastOf
def r_lo2 (x best : Int32) : Int32 := if x = -3 then best else if best = -3 then x else if best ≤ x then best else x
def r_lof (n : Nat) (out u v : Int32) (σ : g_St) (i : Nat) (best : Int32) : Int32 := if u < 0 then r_lo2 (r_al n (nI i) out σ) best else if r_sep (nI i) u v = 0 then best else r_lo2 (r_al n (nI i) out σ) best
def r_lo (n : Nat) (out u v : Int32) (σ : g_St) : Int32 := lp (r_lof n out u v σ) (2 ^ n) 0 (-3)
def r_least (n : Nat) (σ : g_St) : Int32 := r_lo n (-1) (-1) (-1) σ
-- smallest: the k masks from 2 * i + 2 on
def r_smr (n : Nat) (σ : g_St) (least : Int32) : Nat → Nat → Int32
  | 0, _ => -3
  | k + 1, i => if r_al n (nI (2 * i + 2)) (-1) σ = -3 then r_smr n σ least k (i + 1) else if ¬ r_al n (nI (2 * i + 2)) (-1) σ = least then r_smr n σ least k (i + 1) else nI (2 * i + 2)
def r_sm (n : Nat) (σ : g_St) : Int32 := r_smr n σ (r_least n σ) (2 ^ (n - 1) - 1) 0
def r_bt (n : Nat) (u v : Int32) (σ : g_St) : Int32 := if p_bp n u v = 0 then r_lo n (-1) u v σ else -1
def r_vav (σ : g_St) (mask : Int32) (u v : Nat) (x : Int32) : Int32 := if r_sep mask (nI u) (nI v) = 0 then x else x + σ 1 (u * 9 + v)
def r_vau (σ : g_St) (mask : Int32) (u : Nat) (x : Int32) : Int32 := lp (r_vav σ mask u) u 0 x
def r_va (n : Nat) (mask : Int32) (σ : g_St) : Int32 := lp (r_vau σ mask) n 0 0
def r_sev (n : Nat) (σ : g_St) (least : Int32) (u v : Nat) (x : Int32) : Int32 := if least = -3 then x else if ¬ r_lo n (-1) (nI u) (nI v) σ = least then x else x + 1
def r_seu (n : Nat) (σ : g_St) (least : Int32) (u : Nat) (x : Int32) : Int32 := lp (r_sev n σ least u) u 0 x
def r_se (n : Nat) (σ : g_St) : Int32 := lp (r_seu n σ (r_least n σ)) n 0 0
def r_wo (n : Nat) (v : Int32) (σ : g_St) : Int32 := if v < 0 then -1 else if v < nI n then r_lo n v (-1) (-1) σ else -1
end
section
set_option maxRecDepth 100000
section W5
variable {p : Program} {l : Launch} {e : Env} {R : Room} {s : State} {m : MethodId} {args : Array Value} {below : List Frame} {meth : Method} {c : Code} {Q : State → Prop} {D : va_G} {dI dZ : ClassId} {A : Nat → Prop} {H0 : Heap} {h0 : Nat} {ad : Nat → Nat} {n : Nat}
set_option maxHeartbeats 2000000 in
theorem m2_separates (l : Launch) (D : va_G) (dI dZ : ClassId) (h0 : Nat) (ad : Nat → Nat) (n : Nat) (hn : n ≤ 9) (σ : g_St) (mask u v : Int32) : g_Mi l D dI dZ (g2_w dI dZ h0 ad n) h0 yX2_separates cX2_separates 4 .boolean 0 0 [.int mask, .int u, .int v] σ (fun r τ => r = r_sep mask u v ∧ τ = σ) := by
  refine g_starti (own := RX2) (by decide +kernel) rfl (Nat.le_of_ble_eq_true rfl) ?_
  intro p e s m below meth c A ls hr hlk hA C G hl
  replace hl : lv_has ls 4 [(0, .ref h0), (1, .int mask), (2, .int u), (3, .int v)] := hl
  refine lv_iload_n C.x C.b dX2_separates_0 rfl (lv_at hl 1 rfl) ?_
  refine lv_iload_n C.x C.b dX2_separates_1 rfl (lv_at hl 2 rfl) ?_
  refine lv_ishr C.x C.b dX2_separates_2 ?_
  refine lv_iconst (v := 1) C.x C.b dX2_separates_3 (by decide) ?_
  refine lv_iand C.x C.b dX2_separates_4 ?_
  refine lv_iload_n C.x C.b dX2_separates_5 rfl (lv_at hl 1 rfl) ?_
  refine lv_iload_n C.x C.b dX2_separates_6 rfl (lv_at hl 3 rfl) ?_
  refine lv_ishr C.x C.b dX2_separates_7 ?_
  refine lv_iconst (v := 1) C.x C.b dX2_separates_8 (by decide) ?_
  refine lv_iand C.x C.b dX2_separates_9 ?_
  refine lv_icmp_eq (tgt := 17) C.x C.b dX2_separates_10 (by decide) (fun c10 => ?_) (fun c10 => ?_)
  · refine lv_iconst (v := 0) C.x C.b dX2_separates_17 (by decide) ?_
    exact g_zret C G hr hlk rfl ⟨by unfold r_sep; rw [if_pos c10], rfl⟩ dX2_separates_18
  · refine lv_iconst (v := 1) C.x C.b dX2_separates_13 (by decide) ?_
    refine lv_goto (tgt := 18) C.x C.b dX2_separates_14 (by decide) ?_
    exact g_zret C G hr hlk rfl ⟨by unfold r_sep; rw [if_neg c10], rfl⟩ dX2_separates_18
set_option maxHeartbeats 2000000 in
theorem m2_weight (l : Launch) (D : va_G) (dI dZ : ClassId) (h0 : Nat) (ad : Nat → Nat) (n : Nat) (hn : n ≤ 9) (σ : g_St) (u v x : Int32) : g_Mi l D dI dZ (g2_w dI dZ h0 ad n) h0 yX2_weight cX2_weight 5 .int 1 22 [.int u, .int v, .int x] σ (fun r τ => r = (p_wt n u v x σ).1 ∧ τ = (p_wt n u v x σ).2) := by
  refine g_starti (own := RX2) (by decide +kernel) rfl (Nat.le_of_ble_eq_true rfl) ?_
  intro p e s m below meth c A ls hr hlk hA C G hl
  replace hl : lv_has ls 5 [(0, .ref h0), (1, .int u), (2, .int v), (3, .int x)] := hl
  refine lv_aload_n C.x C.b dX2_weight_0 rfl (lv_at hl 0 rfl) ?_
  refine lv_iload_n C.x C.b dX2_weight_1 rfl (lv_at hl 1 rfl) ?_
  refine lv_iload_n C.x C.b dX2_weight_2 rfl (lv_at hl 2 rfl) ?_
  refine g_calli (As := [.int u, .int v]) (rest := []) C G hA (m2_badPair l D dI dZ h0 ad n hn σ u v) (cw22_badPair C.t (by decide) (by decide)) rfl ⟨1, _, _, rfl, rfl, rfl⟩ hl.1 (Nat.le_of_ble_eq_true rfl) rfl dX2_weight_3 (fun r σ1 H locs hw G => ?_)
  obtain ⟨rfl, hw2⟩ := hw
  rw [hw2] at G
  clear hw2
  refine lv_if_eq (tgt := 11) C.x C.b dX2_weight_6 (by decide) (fun c6 => ?_) (fun c6 => ?_)
  · obtain ⟨⟨a, ha, rfl⟩, ⟨b, hb, rfl⟩, hne⟩ := p_bp_0 hn c6
    refine lv_iload_n C.x C.b dX2_weight_11 rfl (lv_at hl 3 rfl) ?_
    refine lv_if_lt (tgt := 21) C.x C.b dX2_weight_12 (by decide) (fun c12 => ?_) (fun c12 => ?_)
    · refine lv_bipush (v := (-2)) C.x C.b dX2_weight_21 (by decide) ?_
      exact g_iret C G hr hlk ⟨by unfold p_wt; rw [nx_nI (by omega), nx_nI (by omega), if_pos c6, if_pos c12], by unfold p_wt; rw [nx_nI (by omega), nx_nI (by omega), if_pos c6, if_pos c12]⟩ dX2_weight_23
    · refine lv_iload_n C.x C.b dX2_weight_15 rfl (lv_at hl 3 rfl) ?_
      refine lv_bipush (v := 50) C.x C.b dX2_weight_16 (by decide) ?_
      refine lv_icmp_le (tgt := 24) C.x C.b dX2_weight_18 (by decide) (fun c18 => ?_) (fun c18 => ?_)
      · refine g2_f1 C G (lv_at hl 0 rfl) dX2_weight_24 dX2_weight_25 ?_
        refine lv_iload_n C.x C.b dX2_weight_28 rfl (lv_at hl 1 rfl) ?_
        refine lv_bipush (v := 9) C.x C.b dX2_weight_29 (by decide) ?_
        refine lv_imul C.x C.b dX2_weight_31 ?_
        refine lv_iload_n C.x C.b dX2_weight_32 rfl (lv_at hl 2 rfl) ?_
        refine lv_iadd C.x C.b dX2_weight_33 ?_
        refine g2_l1 C G (a * 9 + b) (by omega) (g_ixx rfl rfl) dX2_weight_34 ?_
        refine lv_istore (lv' := [(4, .int (σ 1 (a * 9 + b))), (0, .ref h0), (1, .int (nI a)), (2, .int (nI b)), (3, .int x)]) C.x C.b dX2_weight_35 hl (by decide) rfl (fun ls hl => ?_)
        refine g2_f1 C G (lv_at hl 1 rfl) dX2_weight_37 dX2_weight_38 ?_
        refine lv_iload_n C.x C.b dX2_weight_41 rfl (lv_at hl 2 rfl) ?_
        refine lv_bipush (v := 9) C.x C.b dX2_weight_42 (by decide) ?_
        refine lv_imul C.x C.b dX2_weight_44 ?_
        refine lv_iload_n C.x C.b dX2_weight_45 rfl (lv_at hl 3 rfl) ?_
        refine lv_iadd C.x C.b dX2_weight_46 ?_
        refine lv_iload_n C.x C.b dX2_weight_47 rfl (lv_at hl 4 rfl) ?_
        refine g2_s1 C G (a * 9 + b) (by omega) (g_ixx rfl rfl) dX2_weight_48 (fun H locs G => ?_)
        refine g2_f1 C G (lv_at hl 1 rfl) dX2_weight_49 dX2_weight_50 ?_
        refine lv_iload_n C.x C.b dX2_weight_53 rfl (lv_at hl 3 rfl) ?_
        refine lv_bipush (v := 9) C.x C.b dX2_weight_54 (by decide) ?_
        refine lv_imul C.x C.b dX2_weight_56 ?_
        refine lv_iload_n C.x C.b dX2_weight_57 rfl (lv_at hl 2 rfl) ?_
        refine lv_iadd C.x C.b dX2_weight_58 ?_
        refine lv_iload_n C.x C.b dX2_weight_59 rfl (lv_at hl 4 rfl) ?_
        refine g2_s1 C G (b * 9 + a) (by omega) (g_ixx rfl rfl) dX2_weight_60 (fun H locs G => ?_)
        refine lv_iload C.x C.b dX2_weight_61 (lv_at hl 0 rfl) ?_
        exact g_iret C G hr hlk ⟨by unfold p_wt; rw [nx_nI (by omega), nx_nI (by omega), if_pos c6, if_neg c12, if_pos c18], by unfold p_wt; rw [nx_nI (by omega), nx_nI (by omega), if_pos c6, if_neg c12, if_pos c18]⟩ dX2_weight_63
      · refine lv_bipush (v := (-2)) C.x C.b dX2_weight_21 (by decide) ?_
        exact g_iret C G hr hlk ⟨by unfold p_wt; rw [nx_nI (by omega), nx_nI (by omega), if_pos c6, if_neg c12, if_neg c18], by unfold p_wt; rw [nx_nI (by omega), nx_nI (by omega), if_pos c6, if_neg c12, if_neg c18]⟩ dX2_weight_23
  · refine lv_iconst (v := (-1)) C.x C.b dX2_weight_9 (by decide) ?_
    exact g_iret C G hr hlk ⟨by unfold p_wt; rw [if_neg c6], by unfold p_wt; rw [if_neg c6]⟩ dX2_weight_10
set_option maxHeartbeats 2000000 in
theorem m2_change (l : Launch) (D : va_G) (dI dZ : ClassId) (h0 : Nat) (ad : Nat → Nat) (n : Nat) (hn : n ≤ 9) (σ : g_St) (u v x : Int32) : g_Mi l D dI dZ (g2_w dI dZ h0 ad n) h0 yX2_change cX2_change 7 .int 1 22 [.int u, .int v, .int x] σ (fun r τ => r = (r_ch n u v x σ).1 ∧ τ = (r_ch n u v x σ).2) := by
  refine g_starti (own := RX2) (by decide +kernel) rfl (Nat.le_of_ble_eq_true rfl) ?_
  intro p e s m below meth c A ls hr hlk hA C G hl
  replace hl : lv_has ls 7 [(0, .ref h0), (1, .int u), (2, .int v), (3, .int x)] := hl
  refine lv_aload_n C.x C.b dX2_change_0 rfl (lv_at hl 0 rfl) ?_
  refine lv_iload_n C.x C.b dX2_change_1 rfl (lv_at hl 1 rfl) ?_
  refine lv_iload_n C.x C.b dX2_change_2 rfl (lv_at hl 2 rfl) ?_
  refine g_calli (As := [.int u, .int v]) (rest := []) C G hA (m2_badPair l D dI dZ h0 ad n hn σ u v) (cw22_badPair C.t (by decide) (by decide)) rfl ⟨1, _, _, rfl, rfl, rfl⟩ hl.1 (Nat.le_of_ble_eq_true rfl) rfl dX2_change_3 (fun r σ1 H locs hw G => ?_)
  obtain ⟨rfl, hw2⟩ := hw
  rw [hw2] at G
  clear hw2
  refine lv_if_eq (tgt := 11) C.x C.b dX2_change_6 (by decide) (fun c6 => ?_) (fun c6 => ?_)
  · obtain ⟨⟨a, ha, rfl⟩, ⟨b, hb, rfl⟩, hne⟩ := p_bp_0 hn c6
    refine g2_f1 C G (lv_at hl 0 rfl) dX2_change_11 dX2_change_12 ?_
    refine lv_iload_n C.x C.b dX2_change_15 rfl (lv_at hl 1 rfl) ?_
    refine lv_bipush (v := 9) C.x C.b dX2_change_16 (by decide) ?_
    refine lv_imul C.x C.b dX2_change_18 ?_
    refine lv_iload_n C.x C.b dX2_change_19 rfl (lv_at hl 2 rfl) ?_
    refine lv_iadd C.x C.b dX2_change_20 ?_
    refine g2_l1 C G (a * 9 + b) (by omega) (g_ixx rfl rfl) dX2_change_21 ?_
    refine lv_i2l C.x C.b dX2_change_22 rfl ?_
    refine lv_iload_n C.x C.b dX2_change_23 rfl (lv_at hl 3 rfl) ?_
    refine lv_i2l C.x C.b dX2_change_24 rfl ?_
    refine lv_ladd C.x C.b dX2_change_25 ?_
    refine lv_lstore (lv' := [(4, .long (((σ 1 (a * 9 + b)).toInt64) + (x.toInt64))), (0, .ref h0), (1, .int (nI a)), (2, .int (nI b)), (3, .int x)]) C.x C.b dX2_change_26 hl (by decide) rfl (fun ls hl => ?_)
    refine lv_lload C.x C.b dX2_change_28 (lv_at hl 0 rfl) ?_
    refine lv_lconst (v := 0) C.x C.b dX2_change_30 (by decide) ?_
    refine W.lcmp C.x C.b dX2_change_31 ?_
    refine lv_if_ge (tgt := 39) C.x C.b dX2_change_32 (by decide) (fun c32 => ?_) (fun c32 => ?_)
    · refine lv_lload C.x C.b dX2_change_39 (lv_at hl 0 rfl) ?_
      refine lv_ldc2 C.x C.b C.o (C.t _ q194) dX2_change_41 ?_
      refine W.lcmp C.x C.b dX2_change_44 ?_
      refine lv_if_le (tgt := 53) C.x C.b dX2_change_45 (by decide) (fun c45 => ?_) (fun c45 => ?_)
      · refine lv_lload C.x C.b dX2_change_53 (lv_at hl 0 rfl) ?_
        refine lv_l2i C.x C.b dX2_change_55 rfl ?_
        refine lv_istore (lv' := [(6, .int ((((σ 1 (a * 9 + b)).toInt64) + (x.toInt64)).toInt32)), (4, .long (((σ 1 (a * 9 + b)).toInt64) + (x.toInt64))), (0, .ref h0), (1, .int (nI a)), (2, .int (nI b)), (3, .int x)]) C.x C.b dX2_change_56 hl (by decide) rfl (fun ls hl => ?_)
        refine g2_f1 C G (lv_at hl 2 rfl) dX2_change_58 dX2_change_59 ?_
        refine lv_iload_n C.x C.b dX2_change_62 rfl (lv_at hl 3 rfl) ?_
        refine lv_bipush (v := 9) C.x C.b dX2_change_63 (by decide) ?_
        refine lv_imul C.x C.b dX2_change_65 ?_
        refine lv_iload_n C.x C.b dX2_change_66 rfl (lv_at hl 4 rfl) ?_
        refine lv_iadd C.x C.b dX2_change_67 ?_
        refine lv_iload C.x C.b dX2_change_68 (lv_at hl 0 rfl) ?_
        refine g2_s1 C G (a * 9 + b) (by omega) (g_ixx rfl rfl) dX2_change_70 (fun H locs G => ?_)
        refine g2_f1 C G (lv_at hl 2 rfl) dX2_change_71 dX2_change_72 ?_
        refine lv_iload_n C.x C.b dX2_change_75 rfl (lv_at hl 4 rfl) ?_
        refine lv_bipush (v := 9) C.x C.b dX2_change_76 (by decide) ?_
        refine lv_imul C.x C.b dX2_change_78 ?_
        refine lv_iload_n C.x C.b dX2_change_79 rfl (lv_at hl 3 rfl) ?_
        refine lv_iadd C.x C.b dX2_change_80 ?_
        refine lv_iload C.x C.b dX2_change_81 (lv_at hl 0 rfl) ?_
        refine g2_s1 C G (b * 9 + a) (by omega) (g_ixx rfl rfl) dX2_change_83 (fun H locs G => ?_)
        refine lv_iload C.x C.b dX2_change_84 (lv_at hl 0 rfl) ?_
        have ev : r_chv (σ 1 (a * 9 + b)) x = ((((σ 1 (a * 9 + b)).toInt64) + (x.toInt64)).toInt32) := by unfold r_chv; rw [if_pos c32, if_pos c45]
        exact g_iret C G hr hlk ⟨by unfold r_ch; rw [nx_nI (by omega), nx_nI (by omega), if_pos c6, ev], by unfold r_ch; rw [nx_nI (by omega), nx_nI (by omega), if_pos c6, ev]⟩ dX2_change_86
      · refine lv_bipush (v := 50) C.x C.b dX2_change_48 (by decide) ?_
        refine lv_goto (tgt := 56) C.x C.b dX2_change_50 (by decide) ?_
        refine lv_istore (lv' := [(6, .int 50), (4, .long (((σ 1 (a * 9 + b)).toInt64) + (x.toInt64))), (0, .ref h0), (1, .int (nI a)), (2, .int (nI b)), (3, .int x)]) C.x C.b dX2_change_56 hl (by decide) rfl (fun ls hl => ?_)
        refine g2_f1 C G (lv_at hl 2 rfl) dX2_change_58 dX2_change_59 ?_
        refine lv_iload_n C.x C.b dX2_change_62 rfl (lv_at hl 3 rfl) ?_
        refine lv_bipush (v := 9) C.x C.b dX2_change_63 (by decide) ?_
        refine lv_imul C.x C.b dX2_change_65 ?_
        refine lv_iload_n C.x C.b dX2_change_66 rfl (lv_at hl 4 rfl) ?_
        refine lv_iadd C.x C.b dX2_change_67 ?_
        refine lv_iload C.x C.b dX2_change_68 (lv_at hl 0 rfl) ?_
        refine g2_s1 C G (a * 9 + b) (by omega) (g_ixx rfl rfl) dX2_change_70 (fun H locs G => ?_)
        refine g2_f1 C G (lv_at hl 2 rfl) dX2_change_71 dX2_change_72 ?_
        refine lv_iload_n C.x C.b dX2_change_75 rfl (lv_at hl 4 rfl) ?_
        refine lv_bipush (v := 9) C.x C.b dX2_change_76 (by decide) ?_
        refine lv_imul C.x C.b dX2_change_78 ?_
        refine lv_iload_n C.x C.b dX2_change_79 rfl (lv_at hl 3 rfl) ?_
        refine lv_iadd C.x C.b dX2_change_80 ?_
        refine lv_iload C.x C.b dX2_change_81 (lv_at hl 0 rfl) ?_
        refine g2_s1 C G (b * 9 + a) (by omega) (g_ixx rfl rfl) dX2_change_83 (fun H locs G => ?_)
        refine lv_iload C.x C.b dX2_change_84 (lv_at hl 0 rfl) ?_
        have ev : r_chv (σ 1 (a * 9 + b)) x = 50 := by unfold r_chv; rw [if_pos c32, if_neg c45]
        exact g_iret C G hr hlk ⟨by unfold r_ch; rw [nx_nI (by omega), nx_nI (by omega), if_pos c6, ev], by unfold r_ch; rw [nx_nI (by omega), nx_nI (by omega), if_pos c6, ev]⟩ dX2_change_86
    · refine lv_iconst (v := 0) C.x C.b dX2_change_35 (by decide) ?_
      refine lv_goto (tgt := 56) C.x C.b dX2_change_36 (by decide) ?_
      refine lv_istore (lv' := [(6, .int 0), (4, .long (((σ 1 (a * 9 + b)).toInt64) + (x.toInt64))), (0, .ref h0), (1, .int (nI a)), (2, .int (nI b)), (3, .int x)]) C.x C.b dX2_change_56 hl (by decide) rfl (fun ls hl => ?_)
      refine g2_f1 C G (lv_at hl 2 rfl) dX2_change_58 dX2_change_59 ?_
      refine lv_iload_n C.x C.b dX2_change_62 rfl (lv_at hl 3 rfl) ?_
      refine lv_bipush (v := 9) C.x C.b dX2_change_63 (by decide) ?_
      refine lv_imul C.x C.b dX2_change_65 ?_
      refine lv_iload_n C.x C.b dX2_change_66 rfl (lv_at hl 4 rfl) ?_
      refine lv_iadd C.x C.b dX2_change_67 ?_
      refine lv_iload C.x C.b dX2_change_68 (lv_at hl 0 rfl) ?_
      refine g2_s1 C G (a * 9 + b) (by omega) (g_ixx rfl rfl) dX2_change_70 (fun H locs G => ?_)
      refine g2_f1 C G (lv_at hl 2 rfl) dX2_change_71 dX2_change_72 ?_
      refine lv_iload_n C.x C.b dX2_change_75 rfl (lv_at hl 4 rfl) ?_
      refine lv_bipush (v := 9) C.x C.b dX2_change_76 (by decide) ?_
      refine lv_imul C.x C.b dX2_change_78 ?_
      refine lv_iload_n C.x C.b dX2_change_79 rfl (lv_at hl 3 rfl) ?_
      refine lv_iadd C.x C.b dX2_change_80 ?_
      refine lv_iload C.x C.b dX2_change_81 (lv_at hl 0 rfl) ?_
      refine g2_s1 C G (b * 9 + a) (by omega) (g_ixx rfl rfl) dX2_change_83 (fun H locs G => ?_)
      refine lv_iload C.x C.b dX2_change_84 (lv_at hl 0 rfl) ?_
      have ev : r_chv (σ 1 (a * 9 + b)) x = 0 := by unfold r_chv; rw [if_neg c32]
      exact g_iret C G hr hlk ⟨by unfold r_ch; rw [nx_nI (by omega), nx_nI (by omega), if_pos c6, ev], by unfold r_ch; rw [nx_nI (by omega), nx_nI (by omega), if_pos c6, ev]⟩ dX2_change_86
  · refine lv_iconst (v := (-1)) C.x C.b dX2_change_9 (by decide) ?_
    exact g_iret C G hr hlk ⟨by unfold r_ch; rw [if_neg c6], by unfold r_ch; rw [if_neg c6]⟩ dX2_change_10
set_option maxHeartbeats 2000000 in
theorem m2_glue (l : Launch) (D : va_G) (dI dZ : ClassId) (h0 : Nat) (ad : Nat → Nat) (n : Nat) (hn : n ≤ 9) (σ : g_St) (u v x : Int32) (hx : vp_nar .boolean x = x) : g_Mi l D dI dZ (g2_w dI dZ h0 ad n) h0 yX2_glue cX2_glue 5 .int 1 22 [.int u, .int v, .int x] σ (fun r τ => r = (p_gl n u v x σ).1 ∧ τ = (p_gl n u v x σ).2) := by
  refine g_starti (own := RX2) (by decide +kernel) rfl (Nat.le_of_ble_eq_true rfl) ?_
  intro p e s m below meth c A ls hr hlk hA C G hl
  replace hl : lv_has ls 5 [(0, .ref h0), (1, .int u), (2, .int v), (3, .int x)] := hl
  refine lv_aload_n C.x C.b dX2_glue_0 rfl (lv_at hl 0 rfl) ?_
  refine lv_iload_n C.x C.b dX2_glue_1 rfl (lv_at hl 1 rfl) ?_
  refine lv_iload_n C.x C.b dX2_glue_2 rfl (lv_at hl 2 rfl) ?_
  refine g_calli (As := [.int u, .int v]) (rest := []) C G hA (m2_badPair l D dI dZ h0 ad n hn σ u v) (cw22_badPair C.t (by decide) (by decide)) rfl ⟨1, _, _, rfl, rfl, rfl⟩ hl.1 (Nat.le_of_ble_eq_true rfl) rfl dX2_glue_3 (fun r σ1 H locs hw G => ?_)
  obtain ⟨rfl, hw2⟩ := hw
  rw [hw2] at G
  clear hw2
  refine lv_if_eq (tgt := 11) C.x C.b dX2_glue_6 (by decide) (fun c6 => ?_) (fun c6 => ?_)
  · obtain ⟨⟨a, ha, rfl⟩, ⟨b, hb, rfl⟩, hne⟩ := p_bp_0 hn c6
    refine g2_f2 C G (lv_at hl 0 rfl) dX2_glue_11 dX2_glue_12 ?_
    refine lv_iload_n C.x C.b dX2_glue_15 rfl (lv_at hl 1 rfl) ?_
    refine lv_bipush (v := 9) C.x C.b dX2_glue_16 (by decide) ?_
    refine lv_imul C.x C.b dX2_glue_18 ?_
    refine lv_iload_n C.x C.b dX2_glue_19 rfl (lv_at hl 2 rfl) ?_
    refine lv_iadd C.x C.b dX2_glue_20 ?_
    refine g2_l2 C G (a * 9 + b) (by omega) (g_ixx rfl rfl) dX2_glue_21 ?_
    refine lv_if_eq (tgt := 29) C.x C.b dX2_glue_22 (by decide) (fun c22 => ?_) (fun c22 => ?_)
    · refine lv_iconst (v := 0) C.x C.b dX2_glue_29 (by decide) ?_
      refine lv_istore (lv' := [(4, .int 0), (0, .ref h0), (1, .int (nI a)), (2, .int (nI b)), (3, .int x)]) C.x C.b dX2_glue_30 hl (by decide) rfl (fun ls hl => ?_)
      refine g2_f2 C G (lv_at hl 1 rfl) dX2_glue_32 dX2_glue_33 ?_
      refine lv_iload_n C.x C.b dX2_glue_36 rfl (lv_at hl 2 rfl) ?_
      refine lv_bipush (v := 9) C.x C.b dX2_glue_37 (by decide) ?_
      refine lv_imul C.x C.b dX2_glue_39 ?_
      refine lv_iload_n C.x C.b dX2_glue_40 rfl (lv_at hl 3 rfl) ?_
      refine lv_iadd C.x C.b dX2_glue_41 ?_
      refine lv_iload_n C.x C.b dX2_glue_42 rfl (lv_at hl 4 rfl) ?_
      refine g2_s2 C G (a * 9 + b) (by omega) (g_ixx rfl rfl) hx dX2_glue_43 (fun H locs G => ?_)
      refine g2_f2 C G (lv_at hl 1 rfl) dX2_glue_44 dX2_glue_45 ?_
      refine lv_iload_n C.x C.b dX2_glue_48 rfl (lv_at hl 3 rfl) ?_
      refine lv_bipush (v := 9) C.x C.b dX2_glue_49 (by decide) ?_
      refine lv_imul C.x C.b dX2_glue_51 ?_
      refine lv_iload_n C.x C.b dX2_glue_52 rfl (lv_at hl 2 rfl) ?_
      refine lv_iadd C.x C.b dX2_glue_53 ?_
      refine lv_iload_n C.x C.b dX2_glue_54 rfl (lv_at hl 4 rfl) ?_
      refine g2_s2 C G (b * 9 + a) (by omega) (g_ixx rfl rfl) hx dX2_glue_55 (fun H locs G => ?_)
      refine lv_iload C.x C.b dX2_glue_56 (lv_at hl 0 rfl) ?_
      exact g_iret C G hr hlk ⟨by unfold p_gl; rw [nx_nI (by omega), nx_nI (by omega), if_pos c6, if_pos c22], by unfold p_gl; rw [nx_nI (by omega), nx_nI (by omega), if_pos c6]⟩ dX2_glue_58
    · refine lv_iconst (v := 1) C.x C.b dX2_glue_25 (by decide) ?_
      refine lv_goto (tgt := 30) C.x C.b dX2_glue_26 (by decide) ?_
      refine lv_istore (lv' := [(4, .int 1), (0, .ref h0), (1, .int (nI a)), (2, .int (nI b)), (3, .int x)]) C.x C.b dX2_glue_30 hl (by decide) rfl (fun ls hl => ?_)
      refine g2_f2 C G (lv_at hl 1 rfl) dX2_glue_32 dX2_glue_33 ?_
      refine lv_iload_n C.x C.b dX2_glue_36 rfl (lv_at hl 2 rfl) ?_
      refine lv_bipush (v := 9) C.x C.b dX2_glue_37 (by decide) ?_
      refine lv_imul C.x C.b dX2_glue_39 ?_
      refine lv_iload_n C.x C.b dX2_glue_40 rfl (lv_at hl 3 rfl) ?_
      refine lv_iadd C.x C.b dX2_glue_41 ?_
      refine lv_iload_n C.x C.b dX2_glue_42 rfl (lv_at hl 4 rfl) ?_
      refine g2_s2 C G (a * 9 + b) (by omega) (g_ixx rfl rfl) hx dX2_glue_43 (fun H locs G => ?_)
      refine g2_f2 C G (lv_at hl 1 rfl) dX2_glue_44 dX2_glue_45 ?_
      refine lv_iload_n C.x C.b dX2_glue_48 rfl (lv_at hl 3 rfl) ?_
      refine lv_bipush (v := 9) C.x C.b dX2_glue_49 (by decide) ?_
      refine lv_imul C.x C.b dX2_glue_51 ?_
      refine lv_iload_n C.x C.b dX2_glue_52 rfl (lv_at hl 2 rfl) ?_
      refine lv_iadd C.x C.b dX2_glue_53 ?_
      refine lv_iload_n C.x C.b dX2_glue_54 rfl (lv_at hl 4 rfl) ?_
      refine g2_s2 C G (b * 9 + a) (by omega) (g_ixx rfl rfl) hx dX2_glue_55 (fun H locs G => ?_)
      refine lv_iload C.x C.b dX2_glue_56 (lv_at hl 0 rfl) ?_
      exact g_iret C G hr hlk ⟨by unfold p_gl; rw [nx_nI (by omega), nx_nI (by omega), if_pos c6, if_neg c22], by unfold p_gl; rw [nx_nI (by omega), nx_nI (by omega), if_pos c6]⟩ dX2_glue_58
  · refine lv_iconst (v := (-1)) C.x C.b dX2_glue_9 (by decide) ?_
    exact g_iret C G hr hlk ⟨by unfold p_gl; rw [if_neg c6], by unfold p_gl; rw [if_neg c6]⟩ dX2_glue_10
set_option maxHeartbeats 2000000 in
theorem w2_al1 (C : g_C RX2 p s m args c cX2_allowed 8 D dI dZ) (hn : n ≤ 9) (hA : ∀ q, H0.size ≤ q → A q) (hf : 0 + 1 ≤ R.frames) (hlo : 8 + (4 + 11) + 0 ≤ R.locals) {mask ou ci ca : Int32} {σ : g_St} {u : Nat} (hu : u < n) : ∀ (k i : Nat) (x : Int32) (H : Heap) (locs : List Loc) (ls : Array Slot), i + k = u → (r_alv σ mask ou u k i x = none → ∀ (H : Heap) (locs : List Loc) (ls : Array Slot), g2_G D dI dZ A H0 h0 ad n σ H locs → lv_has ls 8 [(0, .ref h0)] → W p l e R s m args below meth c H locs 0 0 Q (F0 m 90 ls [])) → g2_G D dI dZ A H0 h0 ad n σ H locs → lv_has ls 8 [(0, .ref h0), (1, .int mask), (2, .int ou), (3, .int x), (4, .int ci), (5, .int ca), (6, .int (nI u)), (7, .int (nI i))] → (∀ y : Int32, r_alv σ mask ou u k i x = some y → ∀ (H : Heap) (locs : List Loc) (ls : Array Slot), g2_G D dI dZ A H0 h0 ad n σ H locs → lv_has ls 8 [(0, .ref h0), (1, .int mask), (2, .int ou), (3, .int y), (4, .int ci), (5, .int ca), (6, .int (nI u))] → W p l e R s m args below meth c H locs 0 0 Q (F0 m 115 ls [])) → W p l e R s m args below meth c H locs 0 0 Q (F0 m 43 ls []) := by
  intro k
  induction k with
  | zero =>
    intro i x H locs ls hk kn G hl kk
    refine lv_iload C.x C.b dX2_allowed_43 (lv_at hl 7 rfl) ?_
    refine lv_iload C.x C.b dX2_allowed_45 (lv_at hl 6 rfl) ?_
    refine lv_icmp_ge (tgt := 115) C.x C.b dX2_allowed_47 (by decide) (fun _ => ?_) (fun hq => absurd (nI_le (by omega) (by omega)) hq)
    exact kk x rfl H locs ls G (lv_sub hl [0, 1, 2, 3, 4, 5, 6] rfl)
  | succ k ih =>
    intro i x H locs ls hk kn G hl kk
    refine lv_iload C.x C.b dX2_allowed_43 (lv_at hl 7 rfl) ?_
    refine lv_iload C.x C.b dX2_allowed_45 (lv_at hl 6 rfl) ?_
    refine lv_icmp_ge (tgt := 115) C.x C.b dX2_allowed_47 (by decide) (fun hq => absurd hq (nI_ge (by omega) (by omega))) (fun _ => ?_)
    refine lv_iload C.x C.b dX2_allowed_50 (lv_at hl 6 rfl) ?_
    refine lv_iload_n C.x C.b dX2_allowed_52 rfl (lv_at hl 2 rfl) ?_
    refine lv_icmp_eq (tgt := 109) C.x C.b dX2_allowed_53 (by decide) (fun c53 => ?_) (fun c53 => ?_)
    · refine lv_iinc (v := (nI (i + 1))) (lv' := [(7, .int (nI (i + 1))), (0, .ref h0), (1, .int mask), (2, .int ou), (3, .int x), (4, .int ci), (5, .int ca), (6, .int (nI u))]) C.x C.b dX2_allowed_109 hl (k := 7) rfl (nI_1 i) (by decide) rfl (fun ls hl => ?_)
      refine lv_goto (tgt := 43) C.x C.b dX2_allowed_112 (by decide) ?_
      have eq : r_alv σ mask ou u (k + 1) i x = r_alv σ mask ou u k (i + 1) x := by rw [r_alv, if_pos c53]
      rw [eq] at kk kn
      exact ih (i + 1) x H locs ls (by omega) kn G (lv_sub hl [1, 2, 3, 4, 5, 6, 7, 0] rfl) kk
    · refine lv_iload C.x C.b dX2_allowed_56 (lv_at hl 7 rfl) ?_
      refine lv_iload_n C.x C.b dX2_allowed_58 rfl (lv_at hl 2 rfl) ?_
      refine lv_icmp_eq (tgt := 109) C.x C.b dX2_allowed_59 (by decide) (fun c59 => ?_) (fun c59 => ?_)
      · refine lv_iinc (v := (nI (i + 1))) (lv' := [(7, .int (nI (i + 1))), (0, .ref h0), (1, .int mask), (2, .int ou), (3, .int x), (4, .int ci), (5, .int ca), (6, .int (nI u))]) C.x C.b dX2_allowed_109 hl (k := 7) rfl (nI_1 i) (by decide) rfl (fun ls hl => ?_)
        refine lv_goto (tgt := 43) C.x C.b dX2_allowed_112 (by decide) ?_
        have eq : r_alv σ mask ou u (k + 1) i x = r_alv σ mask ou u k (i + 1) x := by rw [r_alv, if_neg c53, if_pos c59]
        rw [eq] at kk kn
        exact ih (i + 1) x H locs ls (by omega) kn G (lv_sub hl [1, 2, 3, 4, 5, 6, 7, 0] rfl) kk
      · refine lv_aload_n C.x C.b dX2_allowed_62 rfl (lv_at hl 0 rfl) ?_
        refine lv_iload_n C.x C.b dX2_allowed_63 rfl (lv_at hl 1 rfl) ?_
        refine lv_iload C.x C.b dX2_allowed_64 (lv_at hl 6 rfl) ?_
        refine lv_iload C.x C.b dX2_allowed_66 (lv_at hl 7 rfl) ?_
        refine g_calli (As := [.int mask, .int (nI u), .int (nI i)]) (rest := []) C G hA (m2_separates l D dI dZ h0 ad n hn σ mask (nI u) (nI i)) (cw22_separates C.t hf hlo) rfl ⟨1, _, _, rfl, rfl, rfl⟩ hl.1 (Nat.le_of_ble_eq_true rfl) rfl dX2_allowed_68 (fun r σ1 H locs hw G => ?_)
        obtain ⟨rfl, hw2⟩ := hw
        rw [hw2] at G
        clear hw2
        refine lv_if_eq (tgt := 109) C.x C.b dX2_allowed_71 (by decide) (fun c71 => ?_) (fun c71 => ?_)
        · refine lv_iinc (v := (nI (i + 1))) (lv' := [(7, .int (nI (i + 1))), (0, .ref h0), (1, .int mask), (2, .int ou), (3, .int x), (4, .int ci), (5, .int ca), (6, .int (nI u))]) C.x C.b dX2_allowed_109 hl (k := 7) rfl (nI_1 i) (by decide) rfl (fun ls hl => ?_)
          refine lv_goto (tgt := 43) C.x C.b dX2_allowed_112 (by decide) ?_
          have eq : r_alv σ mask ou u (k + 1) i x = r_alv σ mask ou u k (i + 1) x := by rw [r_alv, if_neg c53, if_neg c59, if_pos c71]
          rw [eq] at kk kn
          exact ih (i + 1) x H locs ls (by omega) kn G (lv_sub hl [1, 2, 3, 4, 5, 6, 7, 0] rfl) kk
        · refine g2_f2 C G (lv_at hl 0 rfl) dX2_allowed_74 dX2_allowed_75 ?_
          refine lv_iload C.x C.b dX2_allowed_78 (lv_at hl 6 rfl) ?_
          refine lv_bipush (v := 9) C.x C.b dX2_allowed_80 (by decide) ?_
          refine lv_imul C.x C.b dX2_allowed_82 ?_
          refine lv_iload C.x C.b dX2_allowed_83 (lv_at hl 7 rfl) ?_
          refine lv_iadd C.x C.b dX2_allowed_85 ?_
          refine g2_l2 C G (u * 9 + i) (by omega) (g_ixx rfl rfl) dX2_allowed_86 ?_
          refine lv_if_eq (tgt := 93) C.x C.b dX2_allowed_87 (by decide) (fun c87 => ?_) (fun c87 => ?_)
          · refine lv_iload_n C.x C.b dX2_allowed_93 rfl (lv_at hl 3 rfl) ?_
            refine g2_f1 C G (lv_at hl 0 rfl) dX2_allowed_94 dX2_allowed_95 ?_
            refine lv_iload C.x C.b dX2_allowed_98 (lv_at hl 6 rfl) ?_
            refine lv_bipush (v := 9) C.x C.b dX2_allowed_100 (by decide) ?_
            refine lv_imul C.x C.b dX2_allowed_102 ?_
            refine lv_iload C.x C.b dX2_allowed_103 (lv_at hl 7 rfl) ?_
            refine lv_iadd C.x C.b dX2_allowed_105 ?_
            refine g2_l1 C G (u * 9 + i) (by omega) (g_ixx rfl rfl) dX2_allowed_106 ?_
            refine lv_iadd C.x C.b dX2_allowed_107 ?_
            refine lv_istore_n (lv' := [(3, .int (x + (σ 1 (u * 9 + i)))), (0, .ref h0), (1, .int mask), (2, .int ou), (4, .int ci), (5, .int ca), (6, .int (nI u)), (7, .int (nI i))]) C.x C.b dX2_allowed_108 rfl hl (by decide) rfl (fun ls hl => ?_)
            refine lv_iinc (v := (nI (i + 1))) (lv' := [(7, .int (nI (i + 1))), (3, .int (x + (σ 1 (u * 9 + i)))), (0, .ref h0), (1, .int mask), (2, .int ou), (4, .int ci), (5, .int ca), (6, .int (nI u))]) C.x C.b dX2_allowed_109 hl (k := 7) rfl (nI_1 i) (by decide) rfl (fun ls hl => ?_)
            refine lv_goto (tgt := 43) C.x C.b dX2_allowed_112 (by decide) ?_
            have eq : r_alv σ mask ou u (k + 1) i x = r_alv σ mask ou u k (i + 1) (x + σ 1 (u * 9 + i)) := by rw [r_alv, if_neg c53, if_neg c59, if_neg c71, if_pos c87]
            rw [eq] at kk kn
            exact ih (i + 1) (x + σ 1 (u * 9 + i)) H locs ls (by omega) kn G (lv_sub hl [2, 3, 4, 1, 5, 6, 7, 0] rfl) kk
          · exact kn (by rw [r_alv, if_neg c53, if_neg c59, if_neg c71, if_neg c87]) H locs ls G (lv_sub hl [0] rfl)
set_option maxHeartbeats 2000000 in
theorem w2_al2 (C : g_C RX2 p s m args c cX2_allowed 8 D dI dZ) (hn : n ≤ 9) (hA : ∀ q, H0.size ≤ q → A q) (hf : 0 + 1 ≤ R.frames) (hlo : 8 + (4 + 11) + 0 ≤ R.locals) {mask ou : Int32} {σ : g_St} : ∀ (k i : Nat) (x : Int32) (cn : Int32 × Int32) (H : Heap) (locs : List Loc) (ls : Array Slot), i + k = n → (r_alu σ mask ou k i x cn = none → ∀ (H : Heap) (locs : List Loc) (ls : Array Slot), g2_G D dI dZ A H0 h0 ad n σ H locs → lv_has ls 8 [(0, .ref h0)] → W p l e R s m args below meth c H locs 0 0 Q (F0 m 90 ls [])) → g2_G D dI dZ A H0 h0 ad n σ H locs → lv_has ls 8 [(0, .ref h0), (1, .int mask), (2, .int ou), (3, .int x), (4, .int cn.1), (5, .int cn.2), (6, .int (nI i))] → (∀ y : Int32 × Int32 × Int32, r_alu σ mask ou k i x cn = some y → ∀ (H : Heap) (locs : List Loc) (ls : Array Slot), g2_G D dI dZ A H0 h0 ad n σ H locs → lv_has ls 8 [(0, .ref h0), (3, .int y.1), (4, .int y.2.1), (5, .int y.2.2)] → W p l e R s m args below meth c H locs 0 0 Q (F0 m 121 ls [])) → W p l e R s m args below meth c H locs 0 0 Q (F0 m 11 ls []) := by
  intro k
  induction k with
  | zero =>
    intro i x cn H locs ls hk kn G hl kk
    refine lv_iload C.x C.b dX2_allowed_11 (lv_at hl 6 rfl) ?_
    refine g2_f0 C G (lv_at hl 0 rfl) dX2_allowed_13 dX2_allowed_14 ?_
    refine lv_icmp_ge (tgt := 121) C.x C.b dX2_allowed_17 (by decide) (fun _ => ?_) (fun hq => absurd (nI_le (by omega) (by omega)) hq)
    exact kk _ rfl H locs ls G (lv_sub hl [0, 3, 4, 5] rfl)
  | succ k ih =>
    intro i x cn H locs ls hk kn G hl kk
    refine lv_iload C.x C.b dX2_allowed_11 (lv_at hl 6 rfl) ?_
    refine g2_f0 C G (lv_at hl 0 rfl) dX2_allowed_13 dX2_allowed_14 ?_
    refine lv_icmp_ge (tgt := 121) C.x C.b dX2_allowed_17 (by decide) (fun hq => absurd hq (nI_ge (by omega) (by omega))) (fun _ => ?_)
    have K2 : ∀ (H : Heap) (locs : List Loc) (ls : Array Slot), g2_G D dI dZ A H0 h0 ad n σ H locs → lv_has ls 8 [(0, .ref h0), (1, .int mask), (2, .int ou), (3, .int x), (4, .int ((r_alc mask ou i cn).1)), (5, .int ((r_alc mask ou i cn).2)), (6, .int (nI i))] → W p l e R s m args below meth c H locs 0 0 Q (F0 m 40 ls []) := by
      intro H locs ls G hl
      refine lv_iconst (v := (nI 0)) C.x C.b dX2_allowed_40 (by decide) ?_
      refine lv_istore (lv' := [(7, .int (nI 0)), (0, .ref h0), (1, .int mask), (2, .int ou), (3, .int x), (4, .int ((r_alc mask ou i cn).1)), (5, .int ((r_alc mask ou i cn).2)), (6, .int (nI i))]) C.x C.b dX2_allowed_41 hl (by decide) rfl (fun ls hl => ?_)
      refine w2_al1 C hn hA hf hlo (u := i) (by omega) i 0 x H locs ls (by omega) (fun h => kn (by rw [r_alu, h])) G (lv_sub hl [1, 2, 3, 4, 5, 6, 7, 0] rfl) (fun y hy H locs ls G hl => ?_)
      have eq : r_alu σ mask ou (k + 1) i x cn = r_alu σ mask ou k (i + 1) y (r_alc mask ou i cn) := by rw [r_alu, hy]
      rw [eq] at kk kn
      refine lv_iinc (v := (nI (i + 1))) (lv' := [(6, .int (nI (i + 1))), (0, .ref h0), (1, .int mask), (2, .int ou), (3, .int y), (4, .int ((r_alc mask ou i cn).1)), (5, .int ((r_alc mask ou i cn).2))]) C.x C.b dX2_allowed_115 hl (k := 6) rfl (nI_1 i) (by decide) rfl (fun ls hl => ?_)
      refine lv_goto (tgt := 11) C.x C.b dX2_allowed_118 (by decide) ?_
      exact ih (i + 1) y (r_alc mask ou i cn) H locs ls (by omega) kn G (lv_sub hl [1, 2, 3, 4, 5, 6, 0] rfl) kk
    refine lv_iload C.x C.b dX2_allowed_20 (lv_at hl 6 rfl) ?_
    refine lv_iload_n C.x C.b dX2_allowed_22 rfl (lv_at hl 2 rfl) ?_
    refine lv_icmp_eq (tgt := 40) C.x C.b dX2_allowed_23 (by decide) (fun c23 => ?_) (fun c23 => ?_)
    · have eq : r_alc mask ou i cn = (cn.1, cn.2) := by unfold r_alc; rw [if_pos c23]
      exact K2 H locs ls G (by rw [eq]; exact (lv_sub hl [0, 1, 2, 3, 4, 5, 6] rfl))
    · refine lv_iload C.x C.b dX2_allowed_26 (lv_at hl 4 rfl) ?_
      refine lv_iload_n C.x C.b dX2_allowed_28 rfl (lv_at hl 1 rfl) ?_
      refine lv_iload C.x C.b dX2_allowed_29 (lv_at hl 6 rfl) ?_
      refine lv_ishr C.x C.b dX2_allowed_31 ?_
      refine lv_iconst (v := 1) C.x C.b dX2_allowed_32 (by decide) ?_
      refine lv_iand C.x C.b dX2_allowed_33 ?_
      refine lv_iadd C.x C.b dX2_allowed_34 ?_
      refine lv_istore (lv' := [(4, .int (cn.1 + ((mask >>> ((nI i) &&& 31)) &&& 1))), (0, .ref h0), (1, .int mask), (2, .int ou), (3, .int x), (5, .int cn.2), (6, .int (nI i))]) C.x C.b dX2_allowed_35 hl (by decide) rfl (fun ls hl => ?_)
      refine lv_iinc (v := (cn.2 + 1)) (lv' := [(5, .int (cn.2 + 1)), (4, .int (cn.1 + ((mask >>> ((nI i) &&& 31)) &&& 1))), (0, .ref h0), (1, .int mask), (2, .int ou), (3, .int x), (6, .int (nI i))]) C.x C.b dX2_allowed_37 hl (k := 5) rfl rfl (by decide) rfl (fun ls hl => ?_)
      have eq : r_alc mask ou i cn = ((cn.1 + ((mask >>> ((nI i) &&& 31)) &&& 1)), (cn.2 + 1)) := by unfold r_alc; rw [if_neg c23]
      exact K2 H locs ls G (by rw [eq]; exact (lv_sub hl [2, 3, 4, 5, 1, 0, 6] rfl))
set_option maxHeartbeats 2000000 in
theorem m2_allowed (l : Launch) (D : va_G) (dI dZ : ClassId) (h0 : Nat) (ad : Nat → Nat) (n : Nat) (hn : n ≤ 9) (σ : g_St) (mask ou : Int32) : g_Mi l D dI dZ (g2_w dI dZ h0 ad n) h0 yX2_allowed cX2_allowed 8 .int 1 23 [.int mask, .int ou] σ (fun r τ => r = r_al n mask ou σ ∧ τ = σ) := by
  refine g_starti (own := RX2) (by decide +kernel) rfl (Nat.le_of_ble_eq_true rfl) ?_
  intro p e s m below meth c A ls hr hlk hA C G hl
  replace hl : lv_has ls 8 [(0, .ref h0), (1, .int mask), (2, .int ou)] := hl
  refine lv_iconst (v := 0) C.x C.b dX2_allowed_0 (by decide) ?_
  refine lv_istore_n (lv' := [(3, .int 0), (0, .ref h0), (1, .int mask), (2, .int ou)]) C.x C.b dX2_allowed_1 rfl hl (by decide) rfl (fun ls hl => ?_)
  refine lv_iconst (v := 0) C.x C.b dX2_allowed_2 (by decide) ?_
  refine lv_istore (lv' := [(4, .int 0), (3, .int 0), (0, .ref h0), (1, .int mask), (2, .int ou)]) C.x C.b dX2_allowed_3 hl (by decide) rfl (fun ls hl => ?_)
  refine lv_iconst (v := 0) C.x C.b dX2_allowed_5 (by decide) ?_
  refine lv_istore (lv' := [(5, .int 0), (4, .int 0), (3, .int 0), (0, .ref h0), (1, .int mask), (2, .int ou)]) C.x C.b dX2_allowed_6 hl (by decide) rfl (fun ls hl => ?_)
  refine lv_iconst (v := (nI 0)) C.x C.b dX2_allowed_8 (by decide) ?_
  refine lv_istore (lv' := [(6, .int (nI 0)), (5, .int 0), (4, .int 0), (3, .int 0), (0, .ref h0), (1, .int mask), (2, .int ou)]) C.x C.b dX2_allowed_9 hl (by decide) rfl (fun ls hl => ?_)
  refine w2_al2 C hn hA (by decide) (by decide) n 0 0 (0, 0) _ _ _ (by omega) (fun hy H locs ls G hl => ?_) G (lv_sub hl [4, 5, 6, 3, 2, 1, 0] rfl) (fun y hy H locs ls G hl => ?_)
  · refine lv_bipush (v := (-3)) C.x C.b dX2_allowed_90 (by decide) ?_
    exact g_iret C G hr hlk ⟨by unfold r_al; rw [hy], rfl⟩ dX2_allowed_92
  · refine lv_iload C.x C.b dX2_allowed_121 (lv_at hl 2 rfl) ?_
    refine lv_if_eq (tgt := 133) C.x C.b dX2_allowed_123 (by decide) (fun c123 => ?_) (fun c123 => ?_)
    · refine lv_bipush (v := (-3)) C.x C.b dX2_allowed_133 (by decide) ?_
      refine lv_goto (tgt := 139) C.x C.b dX2_allowed_135 (by decide) ?_
      exact g_iret C G hr hlk ⟨by unfold r_al; rw [hy]; show _ = if y.2.1 = 0 then _ else _; rw [if_pos c123], rfl⟩ dX2_allowed_139
    · refine lv_iload C.x C.b dX2_allowed_126 (lv_at hl 2 rfl) ?_
      refine lv_iload C.x C.b dX2_allowed_128 (lv_at hl 3 rfl) ?_
      refine lv_icmp_ne (tgt := 138) C.x C.b dX2_allowed_130 (by decide) (fun c130 => ?_) (fun c130 => ?_)
      · refine lv_iload_n C.x C.b dX2_allowed_138 rfl (lv_at hl 1 rfl) ?_
        exact g_iret C G hr hlk ⟨by unfold r_al; rw [hy]; show _ = if y.2.1 = 0 then _ else _; rw [if_neg c123, if_pos c130], rfl⟩ dX2_allowed_139
      · refine lv_bipush (v := (-3)) C.x C.b dX2_allowed_133 (by decide) ?_
        refine lv_goto (tgt := 139) C.x C.b dX2_allowed_135 (by decide) ?_
        exact g_iret C G hr hlk ⟨by unfold r_al; rw [hy]; show _ = if y.2.1 = 0 then _ else _; rw [if_neg c123, if_neg (not_not_intro c130)], rfl⟩ dX2_allowed_139
set_option maxHeartbeats 2000000 in
theorem w2_lo (C : g_C RX2 p s m args c cX2_leastOf 7 D dI dZ) (hn : n ≤ 9) (hA : ∀ q, H0.size ≤ q → A q) (hf : 1 + 1 ≤ R.frames) (hlo : 8 + (8 + 11) + 23 ≤ R.locals) (hf2 : 0 + 1 ≤ R.frames) (hlo2 : 8 + (4 + 11) + 0 ≤ R.locals) {ou u v : Int32} {σ : g_St} : ∀ (k i : Nat) (b : Int32) (H : Heap) (locs : List Loc) (ls : Array Slot), i + k = 2 ^ n → g2_G D dI dZ A H0 h0 ad n σ H locs → lv_has ls 7 [(0, .ref h0), (1, .int ou), (2, .int u), (3, .int v), (4, .int b), (5, .int (nI i))] → (∀ (H : Heap) (locs : List Loc) (ls : Array Slot), g2_G D dI dZ A H0 h0 ad n σ H locs → lv_has ls 7 [(0, .ref h0), (4, .int (lp (r_lof n ou u v σ) k i b))] → W p l e R s m args below meth c H locs 0 0 Q (F0 m 73 ls [])) → W p l e R s m args below meth c H locs 0 0 Q (F0 m 7 ls []) := by
  intro k
  induction k with
  | zero =>
    intro i b H locs ls hk G hl kk
    have h2 : 2 ^ n ≤ 2 ^ 9 := Nat.pow_le_pow_right (by decide) hn
    refine lv_iload C.x C.b dX2_leastOf_7 (lv_at hl 5 rfl) ?_
    refine lv_iconst (v := 1) C.x C.b dX2_leastOf_9 (by decide) ?_
    refine g2_f0 C G (lv_at hl 0 rfl) dX2_leastOf_10 dX2_leastOf_11 ?_
    refine lv_ishl C.x C.b dX2_leastOf_14 ?_
    rw [g_shl n (by omega)]
    refine lv_icmp_ge (tgt := 73) C.x C.b dX2_leastOf_15 (by decide) (fun _ => ?_) (fun hq => absurd (nI_le (by omega) (by omega)) hq)
    exact kk H locs ls G (lv_sub hl [0, 4] rfl)
  | succ k ih =>
    intro i b H locs ls hk G hl kk
    have h2 : 2 ^ n ≤ 2 ^ 9 := Nat.pow_le_pow_right (by decide) hn
    refine lv_iload C.x C.b dX2_leastOf_7 (lv_at hl 5 rfl) ?_
    refine lv_iconst (v := 1) C.x C.b dX2_leastOf_9 (by decide) ?_
    refine g2_f0 C G (lv_at hl 0 rfl) dX2_leastOf_10 dX2_leastOf_11 ?_
    refine lv_ishl C.x C.b dX2_leastOf_14 ?_
    rw [g_shl n (by omega)]
    refine lv_icmp_ge (tgt := 73) C.x C.b dX2_leastOf_15 (by decide) (fun hq => absurd hq (nI_ge (by omega) (by omega))) (fun _ => ?_)
    have K2 : r_lof n ou u v σ i b = (r_lo2 (r_al n (nI i) ou σ) b) → ∀ (H : Heap) (locs : List Loc) (ls : Array Slot), g2_G D dI dZ A H0 h0 ad n σ H locs → lv_has ls 7 [(0, .ref h0), (1, .int ou), (2, .int u), (3, .int v), (4, .int b), (5, .int (nI i))] → W p l e R s m args below meth c H locs 0 0 Q (F0 m 33 ls []) := by
      intro eq H locs ls G hl
      refine lv_aload_n C.x C.b dX2_leastOf_33 rfl (lv_at hl 0 rfl) ?_
      refine lv_iload C.x C.b dX2_leastOf_34 (lv_at hl 5 rfl) ?_
      refine lv_iload_n C.x C.b dX2_leastOf_36 rfl (lv_at hl 1 rfl) ?_
      refine g_calli (As := [.int (nI i), .int ou]) (rest := []) C G hA (m2_allowed l D dI dZ h0 ad n hn σ (nI i) ou) (cw22_allowed C.t hf hlo) rfl ⟨1, _, _, rfl, rfl, rfl⟩ hl.1 (Nat.le_of_ble_eq_true rfl) rfl dX2_leastOf_37 (fun r σ1 H locs hw G => ?_)
      obtain ⟨rfl, hw2⟩ := hw
      rw [hw2] at G
      clear hw2
      refine lv_istore (lv' := [(6, .int (r_al n (nI i) ou σ)), (0, .ref h0), (1, .int ou), (2, .int u), (3, .int v), (4, .int b), (5, .int (nI i))]) C.x C.b dX2_leastOf_40 hl (by decide) rfl (fun ls hl => ?_)
      refine lv_iload C.x C.b dX2_leastOf_42 (lv_at hl 0 rfl) ?_
      refine lv_bipush (v := (-3)) C.x C.b dX2_leastOf_44 (by decide) ?_
      refine lv_icmp_eq (tgt := 67) C.x C.b dX2_leastOf_46 (by decide) (fun c46 => ?_) (fun c46 => ?_)
      · refine lv_iinc (v := (nI (i + 1))) (lv' := [(5, .int (nI (i + 1))), (6, .int (r_al n (nI i) ou σ)), (0, .ref h0), (1, .int ou), (2, .int u), (3, .int v), (4, .int b)]) C.x C.b dX2_leastOf_67 hl (k := 6) rfl (nI_1 i) (by decide) rfl (fun ls hl => ?_)
        refine lv_goto (tgt := 7) C.x C.b dX2_leastOf_70 (by decide) ?_
        exact ih (i + 1) b H locs ls (by omega) G (lv_sub hl [2, 3, 4, 5, 6, 0] rfl) (fun H locs ls G hl => kk H locs ls G (by rw [lp_s, show r_lof n ou u v σ i b = b from by rw [eq]; unfold r_lo2; rw [if_pos c46]]; exact hl))
      · refine lv_iload C.x C.b dX2_leastOf_49 (lv_at hl 5 rfl) ?_
        refine lv_bipush (v := (-3)) C.x C.b dX2_leastOf_51 (by decide) ?_
        refine lv_icmp_eq (tgt := 63) C.x C.b dX2_leastOf_53 (by decide) (fun c53 => ?_) (fun c53 => ?_)
        · refine lv_iload C.x C.b dX2_leastOf_63 (lv_at hl 0 rfl) ?_
          refine lv_istore (lv' := [(4, .int (r_al n (nI i) ou σ)), (6, .int (r_al n (nI i) ou σ)), (0, .ref h0), (1, .int ou), (2, .int u), (3, .int v), (5, .int (nI i))]) C.x C.b dX2_leastOf_65 hl (by decide) rfl (fun ls hl => ?_)
          refine lv_iinc (v := (nI (i + 1))) (lv' := [(5, .int (nI (i + 1))), (4, .int (r_al n (nI i) ou σ)), (6, .int (r_al n (nI i) ou σ)), (0, .ref h0), (1, .int ou), (2, .int u), (3, .int v)]) C.x C.b dX2_leastOf_67 hl (k := 6) rfl (nI_1 i) (by decide) rfl (fun ls hl => ?_)
          refine lv_goto (tgt := 7) C.x C.b dX2_leastOf_70 (by decide) ?_
          exact ih (i + 1) (r_al n (nI i) ou σ) H locs ls (by omega) G (lv_sub hl [3, 4, 5, 6, 1, 0] rfl) (fun H locs ls G hl => kk H locs ls G (by rw [lp_s, show r_lof n ou u v σ i b = (r_al n (nI i) ou σ) from by rw [eq]; unfold r_lo2; rw [if_neg c46, if_pos c53]]; exact hl))
        · refine lv_iload C.x C.b dX2_leastOf_56 (lv_at hl 0 rfl) ?_
          refine lv_iload C.x C.b dX2_leastOf_58 (lv_at hl 5 rfl) ?_
          refine lv_icmp_ge (tgt := 67) C.x C.b dX2_leastOf_60 (by decide) (fun c60 => ?_) (fun c60 => ?_)
          · refine lv_iinc (v := (nI (i + 1))) (lv' := [(5, .int (nI (i + 1))), (6, .int (r_al n (nI i) ou σ)), (0, .ref h0), (1, .int ou), (2, .int u), (3, .int v), (4, .int b)]) C.x C.b dX2_leastOf_67 hl (k := 6) rfl (nI_1 i) (by decide) rfl (fun ls hl => ?_)
            refine lv_goto (tgt := 7) C.x C.b dX2_leastOf_70 (by decide) ?_
            exact ih (i + 1) b H locs ls (by omega) G (lv_sub hl [2, 3, 4, 5, 6, 0] rfl) (fun H locs ls G hl => kk H locs ls G (by rw [lp_s, show r_lof n ou u v σ i b = b from by rw [eq]; unfold r_lo2; rw [if_neg c46, if_neg c53, if_pos c60]]; exact hl))
          · refine lv_iload C.x C.b dX2_leastOf_63 (lv_at hl 0 rfl) ?_
            refine lv_istore (lv' := [(4, .int (r_al n (nI i) ou σ)), (6, .int (r_al n (nI i) ou σ)), (0, .ref h0), (1, .int ou), (2, .int u), (3, .int v), (5, .int (nI i))]) C.x C.b dX2_leastOf_65 hl (by decide) rfl (fun ls hl => ?_)
            refine lv_iinc (v := (nI (i + 1))) (lv' := [(5, .int (nI (i + 1))), (4, .int (r_al n (nI i) ou σ)), (6, .int (r_al n (nI i) ou σ)), (0, .ref h0), (1, .int ou), (2, .int u), (3, .int v)]) C.x C.b dX2_leastOf_67 hl (k := 6) rfl (nI_1 i) (by decide) rfl (fun ls hl => ?_)
            refine lv_goto (tgt := 7) C.x C.b dX2_leastOf_70 (by decide) ?_
            exact ih (i + 1) (r_al n (nI i) ou σ) H locs ls (by omega) G (lv_sub hl [3, 4, 5, 6, 1, 0] rfl) (fun H locs ls G hl => kk H locs ls G (by rw [lp_s, show r_lof n ou u v σ i b = (r_al n (nI i) ou σ) from by rw [eq]; unfold r_lo2; rw [if_neg c46, if_neg c53, if_neg c60]]; exact hl))
    refine lv_iload_n C.x C.b dX2_leastOf_18 rfl (lv_at hl 2 rfl) ?_
    refine lv_if_lt (tgt := 33) C.x C.b dX2_leastOf_19 (by decide) (fun c19 => ?_) (fun c19 => ?_)
    · exact K2 (by unfold r_lof; rw [if_pos c19]) H locs ls G hl
    · refine lv_aload_n C.x C.b dX2_leastOf_22 rfl (lv_at hl 0 rfl) ?_
      refine lv_iload C.x C.b dX2_leastOf_23 (lv_at hl 5 rfl) ?_
      refine lv_iload_n C.x C.b dX2_leastOf_25 rfl (lv_at hl 2 rfl) ?_
      refine lv_iload_n C.x C.b dX2_leastOf_26 rfl (lv_at hl 3 rfl) ?_
      refine g_calli (As := [.int (nI i), .int u, .int v]) (rest := []) C G hA (m2_separates l D dI dZ h0 ad n hn σ (nI i) u v) (cw22_separates C.t hf2 hlo2) rfl ⟨1, _, _, rfl, rfl, rfl⟩ hl.1 (Nat.le_of_ble_eq_true rfl) rfl dX2_leastOf_27 (fun r σ1 H locs hw G => ?_)
      obtain ⟨rfl, hw2⟩ := hw
      rw [hw2] at G
      clear hw2
      refine lv_if_eq (tgt := 67) C.x C.b dX2_leastOf_30 (by decide) (fun c30 => ?_) (fun c30 => ?_)
      · refine lv_iinc (v := (nI (i + 1))) (lv' := [(5, .int (nI (i + 1))), (0, .ref h0), (1, .int ou), (2, .int u), (3, .int v), (4, .int b)]) C.x C.b dX2_leastOf_67 hl (k := 5) rfl (nI_1 i) (by decide) rfl (fun ls hl => ?_)
        refine lv_goto (tgt := 7) C.x C.b dX2_leastOf_70 (by decide) ?_
        exact ih (i + 1) b H locs ls (by omega) G (lv_sub hl [1, 2, 3, 4, 5, 0] rfl) (fun H locs ls G hl => kk H locs ls G (by rw [lp_s, show r_lof n ou u v σ i b = b from by unfold r_lof; rw [if_neg c19, if_pos c30]]; exact hl))
      · exact K2 (by unfold r_lof; rw [if_neg c19, if_neg c30]) H locs ls G hl
set_option maxHeartbeats 2000000 in
theorem m2_leastOf (l : Launch) (D : va_G) (dI dZ : ClassId) (h0 : Nat) (ad : Nat → Nat) (n : Nat) (hn : n ≤ 9) (σ : g_St) (ou u v : Int32) : g_Mi l D dI dZ (g2_w dI dZ h0 ad n) h0 yX2_leastOf cX2_leastOf 7 .int 2 50 [.int ou, .int u, .int v] σ (fun r τ => r = r_lo n ou u v σ ∧ τ = σ) := by
  refine g_starti (own := RX2) (by decide +kernel) rfl (Nat.le_of_ble_eq_true rfl) ?_
  intro p e s m below meth c A ls hr hlk hA C G hl
  replace hl : lv_has ls 7 [(0, .ref h0), (1, .int ou), (2, .int u), (3, .int v)] := hl
  refine lv_bipush (v := (-3)) C.x C.b dX2_leastOf_0 (by decide) ?_
  refine lv_istore (lv' := [(4, .int (-3)), (0, .ref h0), (1, .int ou), (2, .int u), (3, .int v)]) C.x C.b dX2_leastOf_2 hl (by decide) rfl (fun ls hl => ?_)
  refine lv_iconst (v := (nI 0)) C.x C.b dX2_leastOf_4 (by decide) ?_
  refine lv_istore (lv' := [(5, .int (nI 0)), (4, .int (-3)), (0, .ref h0), (1, .int ou), (2, .int u), (3, .int v)]) C.x C.b dX2_leastOf_5 hl (by decide) rfl (fun ls hl => ?_)
  refine w2_lo C hn hA (by decide) (by decide) (by decide) (by decide) (2 ^ n) 0 (-3) _ _ _ (by omega) G (lv_sub hl [2, 3, 4, 5, 1, 0] rfl) (fun H locs ls G hl => ?_)
  refine lv_iload C.x C.b dX2_leastOf_73 (lv_at hl 1 rfl) ?_
  exact g_iret C G hr hlk ⟨rfl, rfl⟩ dX2_leastOf_75
set_option maxHeartbeats 2000000 in
theorem m2_least (l : Launch) (D : va_G) (dI dZ : ClassId) (h0 : Nat) (ad : Nat → Nat) (n : Nat) (hn : n ≤ 9) (σ : g_St) : g_Mi l D dI dZ (g2_w dI dZ h0 ad n) h0 yX2_least cX2_least 1 .int 3 76 [] σ (fun r τ => r = r_least n σ ∧ τ = σ) := by
  refine g_starti (own := RX2) (by decide +kernel) rfl (Nat.le_of_ble_eq_true rfl) ?_
  intro p e s m below meth c A ls hr hlk hA C G hl
  replace hl : lv_has ls 1 [(0, .ref h0)] := hl
  refine lv_aload_n C.x C.b dX2_least_0 rfl (lv_at hl 0 rfl) ?_
  refine lv_iconst (v := (-1)) C.x C.b dX2_least_1 (by decide) ?_
  refine lv_iconst (v := (-1)) C.x C.b dX2_least_2 (by decide) ?_
  refine lv_iconst (v := (-1)) C.x C.b dX2_least_3 (by decide) ?_
  refine g_calli (As := [.int (-1), .int (-1), .int (-1)]) (rest := []) C G hA (m2_leastOf l D dI dZ h0 ad n hn σ (-1) (-1) (-1)) (cw22_leastOf C.t (by decide) (by decide)) rfl ⟨1, _, _, rfl, rfl, rfl⟩ hl.1 (Nat.le_of_ble_eq_true rfl) rfl dX2_least_4 (fun r σ1 H locs hw G => ?_)
  obtain ⟨rfl, hw2⟩ := hw
  rw [hw2] at G
  clear hw2
  exact g_iret C G hr hlk ⟨rfl, rfl⟩ dX2_least_7
set_option maxHeartbeats 2000000 in
theorem w2_sm (C : g_C RX2 p s m args c cX2_smallest 4 D dI dZ) (hn : n ≤ 9) (hA : ∀ q, H0.size ≤ q → A q) (hf : 1 + 1 ≤ R.frames) (hlo : 8 + (8 + 11) + 23 ≤ R.locals) {least : Int32} {σ : g_St} : ∀ (k i : Nat)  (H : Heap) (locs : List Loc) (ls : Array Slot), 2 * i + 2 + 2 * k = 2 ^ n → (∀ y : Int32, r_smr n σ least k i = y → ∀ (H : Heap) (locs : List Loc) (ls : Array Slot), g2_G D dI dZ A H0 h0 ad n σ H locs → lv_has ls 4 [(0, .ref h0), (2, .int y)] → W p l e R s m args below meth c H locs 0 0 Q (F0 m 35 ls [])) → g2_G D dI dZ A H0 h0 ad n σ H locs → lv_has ls 4 [(0, .ref h0), (1, .int least), (2, .int (nI (2 * i + 2)))] → (r_smr n σ least k i = (-3) → ∀ (H : Heap) (locs : List Loc) (ls : Array Slot), g2_G D dI dZ A H0 h0 ad n σ H locs → lv_has ls 4 [(0, .ref h0)] → W p l e R s m args below meth c H locs 0 0 Q (F0 m 44 ls [])) → W p l e R s m args below meth c H locs 0 0 Q (F0 m 7 ls []) := by
  intro k
  induction k with
  | zero =>
    intro i  H locs ls hk kn G hl kk
    have h2 : 2 ^ n ≤ 2 ^ 9 := Nat.pow_le_pow_right (by decide) hn
    refine lv_iload_n C.x C.b dX2_smallest_7 rfl (lv_at hl 2 rfl) ?_
    refine lv_iconst (v := 1) C.x C.b dX2_smallest_8 (by decide) ?_
    refine g2_f0 C G (lv_at hl 0 rfl) dX2_smallest_9 dX2_smallest_10 ?_
    refine lv_ishl C.x C.b dX2_smallest_13 ?_
    rw [g_shl n (by omega)]
    refine lv_icmp_ge (tgt := 44) C.x C.b dX2_smallest_14 (by decide) (fun _ => ?_) (fun hq => absurd (nI_le (by omega) (by omega)) hq)
    exact kk rfl H locs ls G (lv_sub hl [0] rfl)
  | succ k ih =>
    intro i  H locs ls hk kn G hl kk
    have h2 : 2 ^ n ≤ 2 ^ 9 := Nat.pow_le_pow_right (by decide) hn
    refine lv_iload_n C.x C.b dX2_smallest_7 rfl (lv_at hl 2 rfl) ?_
    refine lv_iconst (v := 1) C.x C.b dX2_smallest_8 (by decide) ?_
    refine g2_f0 C G (lv_at hl 0 rfl) dX2_smallest_9 dX2_smallest_10 ?_
    refine lv_ishl C.x C.b dX2_smallest_13 ?_
    rw [g_shl n (by omega)]
    refine lv_icmp_ge (tgt := 44) C.x C.b dX2_smallest_14 (by decide) (fun hq => absurd hq (nI_ge (by omega) (by omega))) (fun _ => ?_)
    refine lv_aload_n C.x C.b dX2_smallest_17 rfl (lv_at hl 0 rfl) ?_
    refine lv_iload_n C.x C.b dX2_smallest_18 rfl (lv_at hl 2 rfl) ?_
    refine lv_iconst (v := (-1)) C.x C.b dX2_smallest_19 (by decide) ?_
    refine g_calli (As := [.int (nI (2 * i + 2)), .int (-1)]) (rest := []) C G hA (m2_allowed l D dI dZ h0 ad n hn σ (nI (2 * i + 2)) (-1)) (cw22_allowed C.t hf hlo) rfl ⟨1, _, _, rfl, rfl, rfl⟩ hl.1 (Nat.le_of_ble_eq_true rfl) rfl dX2_smallest_20 (fun r σ1 H locs hw G => ?_)
    obtain ⟨rfl, hw2⟩ := hw
    rw [hw2] at G
    clear hw2
    refine lv_istore_n (lv' := [(3, .int (r_al n (nI (2 * i + 2)) (-1) σ)), (0, .ref h0), (1, .int least), (2, .int (nI (2 * i + 2)))]) C.x C.b dX2_smallest_23 rfl hl (by decide) rfl (fun ls hl => ?_)
    refine lv_iload_n C.x C.b dX2_smallest_24 rfl (lv_at hl 0 rfl) ?_
    refine lv_bipush (v := (-3)) C.x C.b dX2_smallest_25 (by decide) ?_
    refine lv_icmp_eq (tgt := 37) C.x C.b dX2_smallest_27 (by decide) (fun c27 => ?_) (fun c27 => ?_)
    · refine lv_iload_n C.x C.b dX2_smallest_37 rfl (lv_at hl 3 rfl) ?_
      refine lv_iconst (v := 2) C.x C.b dX2_smallest_38 (by decide) ?_
      refine lv_iadd C.x C.b dX2_smallest_39 ?_
      rw [show nI (2 * i + 2) + 2 = nI (2 * (i + 1) + 2) from nI_add (2 * i + 2) 2]
      refine lv_istore_n (lv' := [(2, .int (nI (2 * (i + 1) + 2))), (3, .int (r_al n (nI (2 * i + 2)) (-1) σ)), (0, .ref h0), (1, .int least)]) C.x C.b dX2_smallest_40 rfl hl (by decide) rfl (fun ls hl => ?_)
      refine lv_goto (tgt := 7) C.x C.b dX2_smallest_41 (by decide) ?_
      have eq : r_smr n σ least (k + 1) i = r_smr n σ least k (i + 1) := by rw [r_smr, if_pos c27]
      rw [eq] at kk kn
      exact ih (i + 1) H locs ls (by omega) kn G (lv_sub hl [2, 3, 0] rfl) kk
    · refine lv_iload_n C.x C.b dX2_smallest_30 rfl (lv_at hl 0 rfl) ?_
      refine lv_iload_n C.x C.b dX2_smallest_31 rfl (lv_at hl 2 rfl) ?_
      refine lv_icmp_ne (tgt := 37) C.x C.b dX2_smallest_32 (by decide) (fun c32 => ?_) (fun c32 => ?_)
      · refine lv_iload_n C.x C.b dX2_smallest_37 rfl (lv_at hl 3 rfl) ?_
        refine lv_iconst (v := 2) C.x C.b dX2_smallest_38 (by decide) ?_
        refine lv_iadd C.x C.b dX2_smallest_39 ?_
        rw [show nI (2 * i + 2) + 2 = nI (2 * (i + 1) + 2) from nI_add (2 * i + 2) 2]
        refine lv_istore_n (lv' := [(2, .int (nI (2 * (i + 1) + 2))), (3, .int (r_al n (nI (2 * i + 2)) (-1) σ)), (0, .ref h0), (1, .int least)]) C.x C.b dX2_smallest_40 rfl hl (by decide) rfl (fun ls hl => ?_)
        refine lv_goto (tgt := 7) C.x C.b dX2_smallest_41 (by decide) ?_
        have eq : r_smr n σ least (k + 1) i = r_smr n σ least k (i + 1) := by rw [r_smr, if_neg c27, if_pos c32]
        rw [eq] at kk kn
        exact ih (i + 1) H locs ls (by omega) kn G (lv_sub hl [2, 3, 0] rfl) kk
      · exact kn _ (by rw [r_smr, if_neg c27, if_neg (not_not_intro c32)]) H locs ls G (lv_sub hl [1, 3] rfl)
set_option maxHeartbeats 2000000 in
theorem m2_smallest (l : Launch) (D : va_G) (dI dZ : ClassId) (h0 : Nat) (ad : Nat → Nat) (n : Nat) (hn : n ≤ 9) (σ : g_St) (hn1 : 1 ≤ n) : g_Mi l D dI dZ (g2_w dI dZ h0 ad n) h0 yX2_smallest cX2_smallest 4 .int 4 96 [] σ (fun r τ => r = r_sm n σ ∧ τ = σ) := by
  refine g_starti (own := RX2) (by decide +kernel) rfl (Nat.le_of_ble_eq_true rfl) ?_
  intro p e s m below meth c A ls hr hlk hA C G hl
  replace hl : lv_has ls 4 [(0, .ref h0)] := hl
  refine lv_aload_n C.x C.b dX2_smallest_0 rfl (lv_at hl 0 rfl) ?_
  refine g_calli (As := []) (rest := []) C G hA (m2_least l D dI dZ h0 ad n hn σ) (cw22_least C.t (by decide) (by decide)) rfl ⟨1, _, _, rfl, rfl, rfl⟩ hl.1 (Nat.le_of_ble_eq_true rfl) rfl dX2_smallest_1 (fun r σ1 H locs hw G => ?_)
  obtain ⟨rfl, hw2⟩ := hw
  rw [hw2] at G
  clear hw2
  refine lv_istore_n (lv' := [(1, .int (r_least n σ)), (0, .ref h0)]) C.x C.b dX2_smallest_4 rfl hl (by decide) rfl (fun ls hl => ?_)
  refine lv_iconst (v := (nI 2)) C.x C.b dX2_smallest_5 (by decide) ?_
  refine lv_istore_n (lv' := [(2, .int (nI 2)), (1, .int (r_least n σ)), (0, .ref h0)]) C.x C.b dX2_smallest_6 rfl hl (by decide) rfl (fun ls hl => ?_)
  have h2 : 2 ^ n = 2 * 2 ^ (n - 1) := by rw [← Nat.pow_succ']; congr 1; omega
  have h3 : 1 ≤ 2 ^ (n - 1) := Nat.two_pow_pos _
  refine w2_sm C hn hA (by decide) (by decide) (2 ^ (n - 1) - 1) 0 _ _ _ (by omega) (fun y hy H locs ls G hl => ?_) G (lv_sub hl [2, 1, 0] rfl) (fun hy H locs ls G hl => ?_)
  · refine lv_iload_n C.x C.b dX2_smallest_35 rfl (lv_at hl 1 rfl) ?_
    exact g_iret C G hr hlk ⟨hy.symm, rfl⟩ dX2_smallest_36
  · refine lv_bipush (v := (-3)) C.x C.b dX2_smallest_44 (by decide) ?_
    exact g_iret C G hr hlk ⟨hy.symm, rfl⟩ dX2_smallest_46
set_option maxHeartbeats 2000000 in
theorem m2_between (l : Launch) (D : va_G) (dI dZ : ClassId) (h0 : Nat) (ad : Nat → Nat) (n : Nat) (hn : n ≤ 9) (σ : g_St) (u v : Int32) : g_Mi l D dI dZ (g2_w dI dZ h0 ad n) h0 yX2_between cX2_between 3 .int 3 76 [.int u, .int v] σ (fun r τ => r = r_bt n u v σ ∧ τ = σ) := by
  refine g_starti (own := RX2) (by decide +kernel) rfl (Nat.le_of_ble_eq_true rfl) ?_
  intro p e s m below meth c A ls hr hlk hA C G hl
  replace hl : lv_has ls 3 [(0, .ref h0), (1, .int u), (2, .int v)] := hl
  refine lv_aload_n C.x C.b dX2_between_0 rfl (lv_at hl 0 rfl) ?_
  refine lv_iload_n C.x C.b dX2_between_1 rfl (lv_at hl 1 rfl) ?_
  refine lv_iload_n C.x C.b dX2_between_2 rfl (lv_at hl 2 rfl) ?_
  refine g_calli (As := [.int u, .int v]) (rest := []) C G hA (m2_badPair l D dI dZ h0 ad n hn σ u v) (cw22_badPair C.t (by decide) (by decide)) rfl ⟨1, _, _, rfl, rfl, rfl⟩ hl.1 (Nat.le_of_ble_eq_true rfl) rfl dX2_between_3 (fun r σ1 H locs hw G => ?_)
  obtain ⟨rfl, hw2⟩ := hw
  rw [hw2] at G
  clear hw2
  refine lv_if_eq (tgt := 13) C.x C.b dX2_between_6 (by decide) (fun c6 => ?_) (fun c6 => ?_)
  · refine lv_aload_n C.x C.b dX2_between_13 rfl (lv_at hl 0 rfl) ?_
    refine lv_iconst (v := (-1)) C.x C.b dX2_between_14 (by decide) ?_
    refine lv_iload_n C.x C.b dX2_between_15 rfl (lv_at hl 1 rfl) ?_
    refine lv_iload_n C.x C.b dX2_between_16 rfl (lv_at hl 2 rfl) ?_
    refine g_calli (As := [.int (-1), .int u, .int v]) (rest := []) C G hA (m2_leastOf l D dI dZ h0 ad n hn σ (-1) u v) (cw22_leastOf C.t (by decide) (by decide)) rfl ⟨1, _, _, rfl, rfl, rfl⟩ hl.1 (Nat.le_of_ble_eq_true rfl) rfl dX2_between_17 (fun r σ1 H locs hw G => ?_)
    obtain ⟨rfl, hw2⟩ := hw
    rw [hw2] at G
    clear hw2
    exact g_iret C G hr hlk ⟨by unfold r_bt; rw [if_pos c6], rfl⟩ dX2_between_20
  · refine lv_iconst (v := (-1)) C.x C.b dX2_between_9 (by decide) ?_
    refine lv_goto (tgt := 20) C.x C.b dX2_between_10 (by decide) ?_
    exact g_iret C G hr hlk ⟨by unfold r_bt; rw [if_neg c6], rfl⟩ dX2_between_20
set_option maxHeartbeats 2000000 in
theorem w2_va2 (C : g_C RX2 p s m args c cX2_value 5 D dI dZ) (hn : n ≤ 9) (hA : ∀ q, H0.size ≤ q → A q) (hf : 0 + 1 ≤ R.frames) (hlo : 8 + (4 + 11) + 0 ≤ R.locals) {mask : Int32} {σ : g_St} {u : Nat} (hu : u < n) : ∀ (k i : Nat) (x : Int32) (H : Heap) (locs : List Loc) (ls : Array Slot), i + k = u → g2_G D dI dZ A H0 h0 ad n σ H locs → lv_has ls 5 [(0, .ref h0), (1, .int mask), (2, .int x), (3, .int (nI u)), (4, .int (nI i))] → (∀ (H : Heap) (locs : List Loc) (ls : Array Slot), g2_G D dI dZ A H0 h0 ad n σ H locs → lv_has ls 5 [(0, .ref h0), (1, .int mask), (2, .int (lp (r_vav σ mask u) k i x)), (3, .int (nI u))] → W p l e R s m args below meth c H locs 0 0 Q (F0 m 53 ls [])) → W p l e R s m args below meth c H locs 0 0 Q (F0 m 15 ls []) := by
  intro k
  induction k with
  | zero =>
    intro i x H locs ls hk G hl kk
    refine lv_iload C.x C.b dX2_value_15 (lv_at hl 4 rfl) ?_
    refine lv_iload_n C.x C.b dX2_value_17 rfl (lv_at hl 3 rfl) ?_
    refine lv_icmp_ge (tgt := 53) C.x C.b dX2_value_18 (by decide) (fun _ => ?_) (fun hq => absurd (nI_le (by omega) (by omega)) hq)
    exact kk H locs ls G (lv_sub hl [0, 1, 2, 3] rfl)
  | succ k ih =>
    intro i x H locs ls hk G hl kk
    refine lv_iload C.x C.b dX2_value_15 (lv_at hl 4 rfl) ?_
    refine lv_iload_n C.x C.b dX2_value_17 rfl (lv_at hl 3 rfl) ?_
    refine lv_icmp_ge (tgt := 53) C.x C.b dX2_value_18 (by decide) (fun hq => absurd hq (nI_ge (by omega) (by omega))) (fun _ => ?_)
    refine lv_aload_n C.x C.b dX2_value_21 rfl (lv_at hl 0 rfl) ?_
    refine lv_iload_n C.x C.b dX2_value_22 rfl (lv_at hl 1 rfl) ?_
    refine lv_iload_n C.x C.b dX2_value_23 rfl (lv_at hl 3 rfl) ?_
    refine lv_iload C.x C.b dX2_value_24 (lv_at hl 4 rfl) ?_
    refine g_calli (As := [.int mask, .int (nI u), .int (nI i)]) (rest := []) C G hA (m2_separates l D dI dZ h0 ad n hn σ mask (nI u) (nI i)) (cw22_separates C.t hf hlo) rfl ⟨1, _, _, rfl, rfl, rfl⟩ hl.1 (Nat.le_of_ble_eq_true rfl) rfl dX2_value_26 (fun r σ1 H locs hw G => ?_)
    obtain ⟨rfl, hw2⟩ := hw
    rw [hw2] at G
    clear hw2
    refine lv_if_eq (tgt := 47) C.x C.b dX2_value_29 (by decide) (fun c29 => ?_) (fun c29 => ?_)
    · refine lv_iinc (v := (nI (i + 1))) (lv' := [(4, .int (nI (i + 1))), (0, .ref h0), (1, .int mask), (2, .int x), (3, .int (nI u))]) C.x C.b dX2_value_47 hl (k := 4) rfl (nI_1 i) (by decide) rfl (fun ls hl => ?_)
      refine lv_goto (tgt := 15) C.x C.b dX2_value_50 (by decide) ?_
      exact ih (i + 1) x H locs ls (by omega) G (lv_sub hl [1, 2, 3, 4, 0] rfl) (fun H locs ls G hl => kk H locs ls G (by rw [lp_s, show r_vav σ mask u i x = x from by unfold r_vav; rw [if_pos c29]]; exact hl))
    · refine lv_iload_n C.x C.b dX2_value_32 rfl (lv_at hl 2 rfl) ?_
      refine g2_f1 C G (lv_at hl 0 rfl) dX2_value_33 dX2_value_34 ?_
      refine lv_iload_n C.x C.b dX2_value_37 rfl (lv_at hl 3 rfl) ?_
      refine lv_bipush (v := 9) C.x C.b dX2_value_38 (by decide) ?_
      refine lv_imul C.x C.b dX2_value_40 ?_
      refine lv_iload C.x C.b dX2_value_41 (lv_at hl 4 rfl) ?_
      refine lv_iadd C.x C.b dX2_value_43 ?_
      refine g2_l1 C G (u * 9 + i) (by omega) (g_ixx rfl rfl) dX2_value_44 ?_
      refine lv_iadd C.x C.b dX2_value_45 ?_
      refine lv_istore_n (lv' := [(2, .int (x + (σ 1 (u * 9 + i)))), (0, .ref h0), (1, .int mask), (3, .int (nI u)), (4, .int (nI i))]) C.x C.b dX2_value_46 rfl hl (by decide) rfl (fun ls hl => ?_)
      refine lv_iinc (v := (nI (i + 1))) (lv' := [(4, .int (nI (i + 1))), (2, .int (x + (σ 1 (u * 9 + i)))), (0, .ref h0), (1, .int mask), (3, .int (nI u))]) C.x C.b dX2_value_47 hl (k := 4) rfl (nI_1 i) (by decide) rfl (fun ls hl => ?_)
      refine lv_goto (tgt := 15) C.x C.b dX2_value_50 (by decide) ?_
      exact ih (i + 1) (x + σ 1 (u * 9 + i)) H locs ls (by omega) G (lv_sub hl [2, 3, 1, 4, 0] rfl) (fun H locs ls G hl => kk H locs ls G (by rw [lp_s, show r_vav σ mask u i x = (x + σ 1 (u * 9 + i)) from by unfold r_vav; rw [if_neg c29]]; exact hl))
set_option maxHeartbeats 2000000 in
theorem w2_va1 (C : g_C RX2 p s m args c cX2_value 5 D dI dZ) (hn : n ≤ 9) (hA : ∀ q, H0.size ≤ q → A q) (hf : 0 + 1 ≤ R.frames) (hlo : 8 + (4 + 11) + 0 ≤ R.locals) {mask : Int32} {σ : g_St} : ∀ (k i : Nat) (x : Int32) (H : Heap) (locs : List Loc) (ls : Array Slot), i + k = n → g2_G D dI dZ A H0 h0 ad n σ H locs → lv_has ls 5 [(0, .ref h0), (1, .int mask), (2, .int x), (3, .int (nI i))] → (∀ (H : Heap) (locs : List Loc) (ls : Array Slot), g2_G D dI dZ A H0 h0 ad n σ H locs → lv_has ls 5 [(0, .ref h0), (2, .int (lp (r_vau σ mask) k i x))] → W p l e R s m args below meth c H locs 0 0 Q (F0 m 59 ls [])) → W p l e R s m args below meth c H locs 0 0 Q (F0 m 4 ls []) := by
  intro k
  induction k with
  | zero =>
    intro i x H locs ls hk G hl kk
    refine lv_iload_n C.x C.b dX2_value_4 rfl (lv_at hl 3 rfl) ?_
    refine g2_f0 C G (lv_at hl 0 rfl) dX2_value_5 dX2_value_6 ?_
    refine lv_icmp_ge (tgt := 59) C.x C.b dX2_value_9 (by decide) (fun _ => ?_) (fun hq => absurd (nI_le (by omega) (by omega)) hq)
    exact kk H locs ls G (lv_sub hl [0, 2] rfl)
  | succ k ih =>
    intro i x H locs ls hk G hl kk
    refine lv_iload_n C.x C.b dX2_value_4 rfl (lv_at hl 3 rfl) ?_
    refine g2_f0 C G (lv_at hl 0 rfl) dX2_value_5 dX2_value_6 ?_
    refine lv_icmp_ge (tgt := 59) C.x C.b dX2_value_9 (by decide) (fun hq => absurd hq (nI_ge (by omega) (by omega))) (fun _ => ?_)
    refine lv_iconst (v := (nI 0)) C.x C.b dX2_value_12 (by decide) ?_
    refine lv_istore (lv' := [(4, .int (nI 0)), (0, .ref h0), (1, .int mask), (2, .int x), (3, .int (nI i))]) C.x C.b dX2_value_13 hl (by decide) rfl (fun ls hl => ?_)
    refine w2_va2 C hn hA hf hlo (u := i) (by omega) i 0 x H locs ls (by omega) G (lv_sub hl [1, 2, 3, 4, 0] rfl) (fun H locs ls G hl => ?_)
    replace hl : lv_has ls 5 [(0, .ref h0), (1, .int mask), (2, .int (r_vau σ mask i x)), (3, .int (nI i))] := hl
    refine lv_iinc (v := (nI (i + 1))) (lv' := [(3, .int (nI (i + 1))), (0, .ref h0), (1, .int mask), (2, .int (r_vau σ mask i x))]) C.x C.b dX2_value_53 hl (k := 3) rfl (nI_1 i) (by decide) rfl (fun ls hl => ?_)
    refine lv_goto (tgt := 4) C.x C.b dX2_value_56 (by decide) ?_
    exact ih (i + 1) (r_vau σ mask i x) H locs ls (by omega) G (lv_sub hl [1, 2, 3, 0] rfl) kk
set_option maxHeartbeats 2000000 in
theorem m2_value (l : Launch) (D : va_G) (dI dZ : ClassId) (h0 : Nat) (ad : Nat → Nat) (n : Nat) (hn : n ≤ 9) (σ : g_St) (mask : Int32) : g_Mi l D dI dZ (g2_w dI dZ h0 ad n) h0 yX2_value cX2_value 5 .int 1 23 [.int mask] σ (fun r τ => r = r_va n mask σ ∧ τ = σ) := by
  refine g_starti (own := RX2) (by decide +kernel) rfl (Nat.le_of_ble_eq_true rfl) ?_
  intro p e s m below meth c A ls hr hlk hA C G hl
  replace hl : lv_has ls 5 [(0, .ref h0), (1, .int mask)] := hl
  refine lv_iconst (v := 0) C.x C.b dX2_value_0 (by decide) ?_
  refine lv_istore_n (lv' := [(2, .int 0), (0, .ref h0), (1, .int mask)]) C.x C.b dX2_value_1 rfl hl (by decide) rfl (fun ls hl => ?_)
  refine lv_iconst (v := (nI 0)) C.x C.b dX2_value_2 (by decide) ?_
  refine lv_istore_n (lv' := [(3, .int (nI 0)), (2, .int 0), (0, .ref h0), (1, .int mask)]) C.x C.b dX2_value_3 rfl hl (by decide) rfl (fun ls hl => ?_)
  refine w2_va1 C hn hA (by decide) (by decide) n 0 0 _ _ _ (by omega) G (lv_sub hl [2, 3, 1, 0] rfl) (fun H locs ls G hl => ?_)
  refine lv_iload_n C.x C.b dX2_value_59 rfl (lv_at hl 1 rfl) ?_
  exact g_iret C G hr hlk ⟨rfl, rfl⟩ dX2_value_60
set_option maxHeartbeats 2000000 in
theorem w2_se2 (C : g_C RX2 p s m args c cX2_separated 5 D dI dZ) (hn : n ≤ 9) (hA : ∀ q, H0.size ≤ q → A q) (hf : 2 + 1 ≤ R.frames) (hlo : 8 + (7 + 11) + 50 ≤ R.locals) {least : Int32} {σ : g_St} {u : Nat} (hu : u < n) : ∀ (k i : Nat) (x : Int32) (H : Heap) (locs : List Loc) (ls : Array Slot), i + k = u → g2_G D dI dZ A H0 h0 ad n σ H locs → lv_has ls 5 [(0, .ref h0), (1, .int least), (2, .int x), (3, .int (nI u)), (4, .int (nI i))] → (∀ (H : Heap) (locs : List Loc) (ls : Array Slot), g2_G D dI dZ A H0 h0 ad n σ H locs → lv_has ls 5 [(0, .ref h0), (1, .int least), (2, .int (lp (r_sev n σ least u) k i x)), (3, .int (nI u))] → W p l e R s m args below meth c H locs 0 0 Q (F0 m 53 ls [])) → W p l e R s m args below meth c H locs 0 0 Q (F0 m 20 ls []) := by
  intro k
  induction k with
  | zero =>
    intro i x H locs ls hk G hl kk
    refine lv_iload C.x C.b dX2_separated_20 (lv_at hl 4 rfl) ?_
    refine lv_iload_n C.x C.b dX2_separated_22 rfl (lv_at hl 3 rfl) ?_
    refine lv_icmp_ge (tgt := 53) C.x C.b dX2_separated_23 (by decide) (fun _ => ?_) (fun hq => absurd (nI_le (by omega) (by omega)) hq)
    exact kk H locs ls G (lv_sub hl [0, 1, 2, 3] rfl)
  | succ k ih =>
    intro i x H locs ls hk G hl kk
    refine lv_iload C.x C.b dX2_separated_20 (lv_at hl 4 rfl) ?_
    refine lv_iload_n C.x C.b dX2_separated_22 rfl (lv_at hl 3 rfl) ?_
    refine lv_icmp_ge (tgt := 53) C.x C.b dX2_separated_23 (by decide) (fun hq => absurd hq (nI_ge (by omega) (by omega))) (fun _ => ?_)
    refine lv_iload_n C.x C.b dX2_separated_26 rfl (lv_at hl 1 rfl) ?_
    refine lv_bipush (v := (-3)) C.x C.b dX2_separated_27 (by decide) ?_
    refine lv_icmp_eq (tgt := 47) C.x C.b dX2_separated_29 (by decide) (fun c29 => ?_) (fun c29 => ?_)
    · refine lv_iinc (v := (nI (i + 1))) (lv' := [(4, .int (nI (i + 1))), (0, .ref h0), (1, .int least), (2, .int x), (3, .int (nI u))]) C.x C.b dX2_separated_47 hl (k := 4) rfl (nI_1 i) (by decide) rfl (fun ls hl => ?_)
      refine lv_goto (tgt := 20) C.x C.b dX2_separated_50 (by decide) ?_
      exact ih (i + 1) x H locs ls (by omega) G (lv_sub hl [1, 2, 3, 4, 0] rfl) (fun H locs ls G hl => kk H locs ls G (by rw [lp_s, show r_sev n σ least u i x = x from by unfold r_sev; rw [if_pos c29]]; exact hl))
    · refine lv_aload_n C.x C.b dX2_separated_32 rfl (lv_at hl 0 rfl) ?_
      refine lv_iconst (v := (-1)) C.x C.b dX2_separated_33 (by decide) ?_
      refine lv_iload_n C.x C.b dX2_separated_34 rfl (lv_at hl 3 rfl) ?_
      refine lv_iload C.x C.b dX2_separated_35 (lv_at hl 4 rfl) ?_
      refine g_calli (As := [.int (-1), .int (nI u), .int (nI i)]) (rest := []) C G hA (m2_leastOf l D dI dZ h0 ad n hn σ (-1) (nI u) (nI i)) (cw22_leastOf C.t hf hlo) rfl ⟨1, _, _, rfl, rfl, rfl⟩ hl.1 (Nat.le_of_ble_eq_true rfl) rfl dX2_separated_37 (fun r σ1 H locs hw G => ?_)
      obtain ⟨rfl, hw2⟩ := hw
      rw [hw2] at G
      clear hw2
      refine lv_iload_n C.x C.b dX2_separated_40 rfl (lv_at hl 1 rfl) ?_
      refine lv_icmp_ne (tgt := 47) C.x C.b dX2_separated_41 (by decide) (fun c41 => ?_) (fun c41 => ?_)
      · refine lv_iinc (v := (nI (i + 1))) (lv' := [(4, .int (nI (i + 1))), (0, .ref h0), (1, .int least), (2, .int x), (3, .int (nI u))]) C.x C.b dX2_separated_47 hl (k := 4) rfl (nI_1 i) (by decide) rfl (fun ls hl => ?_)
        refine lv_goto (tgt := 20) C.x C.b dX2_separated_50 (by decide) ?_
        exact ih (i + 1) x H locs ls (by omega) G (lv_sub hl [1, 2, 3, 4, 0] rfl) (fun H locs ls G hl => kk H locs ls G (by rw [lp_s, show r_sev n σ least u i x = x from by unfold r_sev; rw [if_neg c29, if_pos c41]]; exact hl))
      · refine lv_iinc (v := (x + 1)) (lv' := [(2, .int (x + 1)), (0, .ref h0), (1, .int least), (3, .int (nI u)), (4, .int (nI i))]) C.x C.b dX2_separated_44 hl (k := 2) rfl rfl (by decide) rfl (fun ls hl => ?_)
        refine lv_iinc (v := (nI (i + 1))) (lv' := [(4, .int (nI (i + 1))), (2, .int (x + 1)), (0, .ref h0), (1, .int least), (3, .int (nI u))]) C.x C.b dX2_separated_47 hl (k := 4) rfl (nI_1 i) (by decide) rfl (fun ls hl => ?_)
        refine lv_goto (tgt := 20) C.x C.b dX2_separated_50 (by decide) ?_
        exact ih (i + 1) (x + 1) H locs ls (by omega) G (lv_sub hl [2, 3, 1, 4, 0] rfl) (fun H locs ls G hl => kk H locs ls G (by rw [lp_s, show r_sev n σ least u i x = (x + 1) from by unfold r_sev; rw [if_neg c29, if_neg (not_not_intro c41)]]; exact hl))
set_option maxHeartbeats 2000000 in
theorem w2_se1 (C : g_C RX2 p s m args c cX2_separated 5 D dI dZ) (hn : n ≤ 9) (hA : ∀ q, H0.size ≤ q → A q) (hf : 2 + 1 ≤ R.frames) (hlo : 8 + (7 + 11) + 50 ≤ R.locals) {least : Int32} {σ : g_St} : ∀ (k i : Nat) (x : Int32) (H : Heap) (locs : List Loc) (ls : Array Slot), i + k = n → g2_G D dI dZ A H0 h0 ad n σ H locs → lv_has ls 5 [(0, .ref h0), (1, .int least), (2, .int x), (3, .int (nI i))] → (∀ (H : Heap) (locs : List Loc) (ls : Array Slot), g2_G D dI dZ A H0 h0 ad n σ H locs → lv_has ls 5 [(0, .ref h0), (2, .int (lp (r_seu n σ least) k i x))] → W p l e R s m args below meth c H locs 0 0 Q (F0 m 59 ls [])) → W p l e R s m args below meth c H locs 0 0 Q (F0 m 9 ls []) := by
  intro k
  induction k with
  | zero =>
    intro i x H locs ls hk G hl kk
    refine lv_iload_n C.x C.b dX2_separated_9 rfl (lv_at hl 3 rfl) ?_
    refine g2_f0 C G (lv_at hl 0 rfl) dX2_separated_10 dX2_separated_11 ?_
    refine lv_icmp_ge (tgt := 59) C.x C.b dX2_separated_14 (by decide) (fun _ => ?_) (fun hq => absurd (nI_le (by omega) (by omega)) hq)
    exact kk H locs ls G (lv_sub hl [0, 2] rfl)
  | succ k ih =>
    intro i x H locs ls hk G hl kk
    refine lv_iload_n C.x C.b dX2_separated_9 rfl (lv_at hl 3 rfl) ?_
    refine g2_f0 C G (lv_at hl 0 rfl) dX2_separated_10 dX2_separated_11 ?_
    refine lv_icmp_ge (tgt := 59) C.x C.b dX2_separated_14 (by decide) (fun hq => absurd hq (nI_ge (by omega) (by omega))) (fun _ => ?_)
    refine lv_iconst (v := (nI 0)) C.x C.b dX2_separated_17 (by decide) ?_
    refine lv_istore (lv' := [(4, .int (nI 0)), (0, .ref h0), (1, .int least), (2, .int x), (3, .int (nI i))]) C.x C.b dX2_separated_18 hl (by decide) rfl (fun ls hl => ?_)
    refine w2_se2 C hn hA hf hlo (u := i) (by omega) i 0 x H locs ls (by omega) G (lv_sub hl [1, 2, 3, 4, 0] rfl) (fun H locs ls G hl => ?_)
    replace hl : lv_has ls 5 [(0, .ref h0), (1, .int least), (2, .int (r_seu n σ least i x)), (3, .int (nI i))] := hl
    refine lv_iinc (v := (nI (i + 1))) (lv' := [(3, .int (nI (i + 1))), (0, .ref h0), (1, .int least), (2, .int (r_seu n σ least i x))]) C.x C.b dX2_separated_53 hl (k := 3) rfl (nI_1 i) (by decide) rfl (fun ls hl => ?_)
    refine lv_goto (tgt := 9) C.x C.b dX2_separated_56 (by decide) ?_
    exact ih (i + 1) (r_seu n σ least i x) H locs ls (by omega) G (lv_sub hl [1, 2, 3, 0] rfl) kk
set_option maxHeartbeats 2000000 in
theorem m2_separated (l : Launch) (D : va_G) (dI dZ : ClassId) (h0 : Nat) (ad : Nat → Nat) (n : Nat) (hn : n ≤ 9) (σ : g_St) : g_Mi l D dI dZ (g2_w dI dZ h0 ad n) h0 yX2_separated cX2_separated 5 .int 4 96 [] σ (fun r τ => r = r_se n σ ∧ τ = σ) := by
  refine g_starti (own := RX2) (by decide +kernel) rfl (Nat.le_of_ble_eq_true rfl) ?_
  intro p e s m below meth c A ls hr hlk hA C G hl
  replace hl : lv_has ls 5 [(0, .ref h0)] := hl
  refine lv_aload_n C.x C.b dX2_separated_0 rfl (lv_at hl 0 rfl) ?_
  refine g_calli (As := []) (rest := []) C G hA (m2_least l D dI dZ h0 ad n hn σ) (cw22_least C.t (by decide) (by decide)) rfl ⟨1, _, _, rfl, rfl, rfl⟩ hl.1 (Nat.le_of_ble_eq_true rfl) rfl dX2_separated_1 (fun r σ1 H locs hw G => ?_)
  obtain ⟨rfl, hw2⟩ := hw
  rw [hw2] at G
  clear hw2
  refine lv_istore_n (lv' := [(1, .int (r_least n σ)), (0, .ref h0)]) C.x C.b dX2_separated_4 rfl hl (by decide) rfl (fun ls hl => ?_)
  refine lv_iconst (v := 0) C.x C.b dX2_separated_5 (by decide) ?_
  refine lv_istore_n (lv' := [(2, .int 0), (1, .int (r_least n σ)), (0, .ref h0)]) C.x C.b dX2_separated_6 rfl hl (by decide) rfl (fun ls hl => ?_)
  refine lv_iconst (v := (nI 0)) C.x C.b dX2_separated_7 (by decide) ?_
  refine lv_istore_n (lv' := [(3, .int (nI 0)), (2, .int 0), (1, .int (r_least n σ)), (0, .ref h0)]) C.x C.b dX2_separated_8 rfl hl (by decide) rfl (fun ls hl => ?_)
  refine w2_se1 C hn hA (by decide) (by decide) n 0 0 _ _ _ (by omega) G (lv_sub hl [3, 2, 1, 0] rfl) (fun H locs ls G hl => ?_)
  refine lv_iload_n C.x C.b dX2_separated_59 rfl (lv_at hl 1 rfl) ?_
  exact g_iret C G hr hlk ⟨rfl, rfl⟩ dX2_separated_60
set_option maxHeartbeats 2000000 in
theorem m2_without (l : Launch) (D : va_G) (dI dZ : ClassId) (h0 : Nat) (ad : Nat → Nat) (n : Nat) (hn : n ≤ 9) (σ : g_St) (v : Int32) : g_Mi l D dI dZ (g2_w dI dZ h0 ad n) h0 yX2_without cX2_without 2 .int 3 76 [.int v] σ (fun r τ => r = r_wo n v σ ∧ τ = σ) := by
  refine g_starti (own := RX2) (by decide +kernel) rfl (Nat.le_of_ble_eq_true rfl) ?_
  intro p e s m below meth c A ls hr hlk hA C G hl
  replace hl : lv_has ls 2 [(0, .ref h0), (1, .int v)] := hl
  refine lv_iload_n C.x C.b dX2_without_0 rfl (lv_at hl 1 rfl) ?_
  refine lv_if_lt (tgt := 12) C.x C.b dX2_without_1 (by decide) (fun c1 => ?_) (fun c1 => ?_)
  · refine lv_iconst (v := (-1)) C.x C.b dX2_without_12 (by decide) ?_
    exact g_iret C G hr hlk ⟨by unfold r_wo; rw [if_pos c1], rfl⟩ dX2_without_13
  · refine lv_iload_n C.x C.b dX2_without_4 rfl (lv_at hl 1 rfl) ?_
    refine g2_f0 C G (lv_at hl 0 rfl) dX2_without_5 dX2_without_6 ?_
    refine lv_icmp_lt (tgt := 14) C.x C.b dX2_without_9 (by decide) (fun c9 => ?_) (fun c9 => ?_)
    · refine lv_aload_n C.x C.b dX2_without_14 rfl (lv_at hl 0 rfl) ?_
      refine lv_iload_n C.x C.b dX2_without_15 rfl (lv_at hl 1 rfl) ?_
      refine lv_iconst (v := (-1)) C.x C.b dX2_without_16 (by decide) ?_
      refine lv_iconst (v := (-1)) C.x C.b dX2_without_17 (by decide) ?_
      refine g_calli (As := [.int v, .int (-1), .int (-1)]) (rest := []) C G hA (m2_leastOf l D dI dZ h0 ad n hn σ v (-1) (-1)) (cw22_leastOf C.t (by decide) (by decide)) rfl ⟨1, _, _, rfl, rfl, rfl⟩ hl.1 (Nat.le_of_ble_eq_true rfl) rfl dX2_without_18 (fun r σ1 H locs hw G => ?_)
      obtain ⟨rfl, hw2⟩ := hw
      rw [hw2] at G
      clear hw2
      exact g_iret C G hr hlk ⟨by unfold r_wo; rw [if_neg c1, if_pos c9], rfl⟩ dX2_without_21
    · refine lv_iconst (v := (-1)) C.x C.b dX2_without_12 (by decide) ?_
      exact g_iret C G hr hlk ⟨by unfold r_wo; rw [if_neg c1, if_neg c9], rfl⟩ dX2_without_13
end W5
end
section
/-! the constructors -/
set_option maxRecDepth 100000
def g_ad (l : List Nat) : Nat → Nat := fun k => l.getD k 0
def p_nn (v : Int32) : Nat := if 2 ≤ v then (if v ≤ 9 then nx v else 9) else 2
theorem p_nn_in {v : Int32} : 2 ≤ p_nn v ∧ p_nn v ≤ 9 := by
  unfold p_nn; split
  · rename_i h
    split
    · rename_i h2
      obtain ⟨j, hj1, rfl⟩ := nI_of2 (x := v) (M := 9) (n := 9) (by decide) (fun h3 => absurd (Int32.lt_of_lt_of_le h3 (show (0 : Int32) ≤ 2 by decide)) (Int32.not_lt.mpr h)) h2
      rw [nx_nI (by omega)]
      exact ⟨(nI_leI (a := 2) (by decide) (by omega)).mp h, hj1⟩
    · decide
  · decide
abbrev g1_nil : List Value := [.int 0, .null, .null, .null, .null, .int 0, .null, .null, .null, .int 0, .int 0, .null, .null, .null]
abbrev g2_nil : List Value := [.int 0, .null, .null]
section W6
variable {p : Program} {l : Launch} {e : Env} {R : Room} {s : State} {m : MethodId} {args : Array Value} {below : List Frame} {meth : Method} {c : Code} {Q : State → Prop} {D : va_G} {dI dZ : ClassId} {A : Nat → Prop} {H0 H : Heap} {locs : List Loc} {cells slots nL pc : Nat} {cc : ByteArray} {own : String} {ws : va_W} {ls : Array Slot} {rest : List Value}
theorem g_newI (C : g_C own p s m args c cc nL D dI dZ) (hP : va_P D vwCl ws H) (hD : va_D A ws) (hS : va_S A H0 H locs) (hA : ∀ q, H0.size ≤ q → A q) (N : Nat) {i : Int32} (ei : i = nI N) (hN : N ≤ 81) (hc : cells + 1 ≤ R.cells) (hs : slots + N ≤ R.slots) (hdg : decode cc pc = .ok (.newarray .int, 2))
    (kk : ∀ (q : Nat) (H1 : Heap), va_P D vwCl (ws ++ [(q, .inl (dI, N, .inl (fun _ => 0)))]) H1 → va_D A (ws ++ [(q, .inl (dI, N, .inl (fun _ => 0)))]) → va_S A H0 H1 locs → W p l e R s m args below meth c H1 locs (cells + 1) (slots + N) Q (F0 m (pc + 2) ls (.ref q :: rest))) : W p l e R s m args below meth c H locs cells slots Q (F0 m pc ls (.int i :: rest)) := by
  subst ei
  refine va_newa (atype := .int) (N' := N) (a0 := (N, .inl (fun _ => 0))) C.x C.b (C.t _ q71) rfl C.2 hP hD hS hA (fun cA => rfl) (nI_pos (by omega)) (nI_clamp (by omega)) (by show N * 4 ≤ _; omega) hc hs hdg (fun q cA H1 hK hP hD hS => ?_)
  have h1 : s.vm.findClass ("[" ++ FieldType.int.toString) = some cA := (hK.2 2 (cA, .int) rfl).2
  have h2 : s.vm.findClass ("[" ++ FieldType.int.toString) = some dI := (hK.2 0 (dI, .int) rfl).2
  have h3 : cA = dI := Option.some.inj (h1.symm.trans h2)
  subst h3
  exact kk q H1 hP hD hS
theorem g_newZ (C : g_C own p s m args c cc nL D dI dZ) (hP : va_P D vwCl ws H) (hD : va_D A ws) (hS : va_S A H0 H locs) (hA : ∀ q, H0.size ≤ q → A q) (N : Nat) {i : Int32} (ei : i = nI N) (hN : N ≤ 81) (hc : cells + 1 ≤ R.cells) (hs : slots + N ≤ R.slots) (hdg : decode cc pc = .ok (.newarray .boolean, 2))
    (kk : ∀ (q : Nat) (H1 : Heap), va_P D vwCl (ws ++ [(q, .inl (dZ, N, .inl (fun _ => 0)))]) H1 → va_D A (ws ++ [(q, .inl (dZ, N, .inl (fun _ => 0)))]) → va_S A H0 H1 locs → W p l e R s m args below meth c H1 locs (cells + 1) (slots + N) Q (F0 m (pc + 2) ls (.ref q :: rest))) : W p l e R s m args below meth c H locs cells slots Q (F0 m pc ls (.int i :: rest)) := by
  subst ei
  refine va_newa (atype := .boolean) (N' := N) (a0 := (N, .inl (fun _ => 0))) C.x C.b (C.t _ q72) rfl C.2 hP hD hS hA (fun cA => rfl) (nI_pos (by omega)) (nI_clamp (by omega)) (by show N * 1 ≤ _; omega) hc hs hdg (fun q cA H1 hK hP hD hS => ?_)
  have h1 : s.vm.findClass ("[" ++ FieldType.boolean.toString) = some cA := (hK.2 2 (cA, .boolean) rfl).2
  have h2 : s.vm.findClass ("[" ++ FieldType.boolean.toString) = some dZ := (hK.2 1 (dZ, .boolean) rfl).2
  have h3 : cA = dZ := Option.some.inj (h1.symm.trans h2)
  subst h3
  exact kk q H1 hP hD hS
end W6
set_option maxHeartbeats 2000000 in
theorem m1_init (l : Launch) (D : va_G) (dI dZ : ClassId) (h0 sz : Nat) (v : Int32) : Met l yX1_init (ws_ yX1_init cX1_init 3 none) ({ frames := 1, cells := 10, slots := 378, locals := 12 } : Room) (va_Pc [.ref h0, .int v] (fun U => U.heap.size = sz ∧ va_P D vwCl [(h0, .inr (0, g1_nil))] U.heap ∧ va_K D vwCl (g_tys dI dZ) U ∧ va_D (fun _ => True) [(h0, .inr (0, g1_nil))])) (va_Qv (fun _ : Nat → Nat => True) (fun ad t => va_P D vwCl (g1_w dI dZ h0 ad (p_nn v) (fun _ _ => 0)) t.heap ∧ va_K D vwCl (g_tys dI dZ) t ∧ va_D (va_A [(h0, .inr (0, g1_nil))] sz) (g1_w dI dZ h0 ad (p_nn v) (fun _ _ => 0))) (va_A [(h0, .inr (0, g1_nil))] sz)) 10 378 (va_A [(h0, .inr (0, g1_nil))] sz) := by
  refine Met.ofW (cc := cX1_init) (maxL := 3) (ret := none) (by decide +kernel) rfl ?_
  intro p e s m args below meth c s₁ B hml hv
  obtain ⟨rfl, hsz, hP, hK, hD0⟩ := hv
  subst hsz
  have hr := B.returns
  have hts := atoms_spec (ws := ws_ yX1_init cX1_init 3 none) B.pre
  have hts : ∀ w ∈ lw_all, w.before _ s = true := fun w h => hts w (List.mem_cons_of_mem _ h)
  have hown : s.vm.findClass RX1 = some m.cls := findClass_of_methodNamed B.named
  have hlocks := B.notSynchronized
  have hin : meth.name = "<init>" := (name_of_methodNamed B.named B.method).1
  have hD := hD0.self (sz := s.heap.size)
  generalize hAe : va_A [(h0, .inr (0, g1_nil))] s.heap.size = A at hD ⊢
  have hA : ∀ q : Nat, s.heap.size ≤ q → A q := fun q h => by rw [← hAe]; exact Or.inr h
  have hS : va_S A s.heap s.heap [] := va_S.rf
  have C : g_C RX1 p s m ([.ref h0, .int v] : List Value).toArray c cX1_init 3 D dI dZ := ⟨⟨B.exec, B.bytes, hml, hown, hts⟩, hK⟩
  have hl := lv_entry ([.ref h0, .int v]) (n := 3) (Nat.le_of_ble_eq_true rfl)
  rw [lg_entry_eq]
  generalize (lg_sl ([.ref h0, .int v]) ++ List.replicate (3 - (lg_sl ([.ref h0, .int v])).length) Slot.unset).toArray = ls at hl ⊢
  have hl : lv_has ls 3 [(0, .ref h0), (1, .int v)] := hl
  refine lv_aload_n C.x C.b dX1_init_0 rfl (lv_at hl 0 rfl) ?_
  refine W.objInit C.x C.b C.o (C.t _ q25) (C.t _ q26) (C.t _ q27) rfl (by rw [hml]; exact hl.1) rfl dX1_init_1 (Nat.le_of_ble_eq_true rfl) (Nat.le_of_ble_eq_true rfl) ?_
  refine W.eq (g2 := F0 m 4 ls []) rfl ?_
  refine lv_aload_n C.x C.b dX1_init_4 rfl (lv_at hl 0 rfl) ?_
  refine lv_bipush (v := (nI 81)) C.x C.b dX1_init_5 (by decide) ?_
  refine g_newI C hP hD hS hA 81 rfl (by decide) (Nat.le_of_ble_eq_true rfl) (Nat.le_of_ble_eq_true rfl) dX1_init_7 (fun a0 H hP hD hS => ?_)
  have hP : va_P D vwCl [(h0, .inr (0, [.int 0, .null, .null, .null, .null, .int 0, .null, .null, .null, .int 0, .int 0, .null, .null, .null])), (a0, .inl (dI, 81, .inl (fun _ => 0)))] H := hP
  have hD : va_D A [(h0, .inr (0, [.int 0, .null, .null, .null, .null, .int 0, .null, .null, .null, .int 0, .int 0, .null, .null, .null])), (a0, .inl (dI, 81, .inl (fun _ => 0)))] := hD
  refine va_putF (D := D) (ci := 0) (v := .ref a0) (ty := .array .int) (C := RX1) (T := TX1) (N := 14) C.x C.b C.t in_X1 tyX1 tyX1_ok nmX1 C.o C.2 hP hD hS 0 rfl rfl 1 (by decide) (C.t _ q29) (fun _ h9 => h9) rfl hin rfl (by decide +kernel) rfl rfl (Nat.le_of_ble_eq_true rfl) dX1_init_9 (fun H locs hP hD hS => ?_)
  have hP : va_P D vwCl [(h0, .inr (0, [.int 0, .ref a0, .null, .null, .null, .int 0, .null, .null, .null, .int 0, .int 0, .null, .null, .null])), (a0, .inl (dI, 81, .inl (fun _ => 0)))] H := hP
  have hD : va_D A [(h0, .inr (0, [.int 0, .ref a0, .null, .null, .null, .int 0, .null, .null, .null, .int 0, .int 0, .null, .null, .null])), (a0, .inl (dI, 81, .inl (fun _ => 0)))] := hD
  refine lv_aload_n C.x C.b dX1_init_12 rfl (lv_at hl 0 rfl) ?_
  refine lv_bipush (v := (nI 81)) C.x C.b dX1_init_13 (by decide) ?_
  refine g_newZ C hP hD hS hA 81 rfl (by decide) (Nat.le_of_ble_eq_true rfl) (Nat.le_of_ble_eq_true rfl) dX1_init_15 (fun a1 H hP hD hS => ?_)
  have hP : va_P D vwCl [(h0, .inr (0, [.int 0, .ref a0, .null, .null, .null, .int 0, .null, .null, .null, .int 0, .int 0, .null, .null, .null])), (a0, .inl (dI, 81, .inl (fun _ => 0))), (a1, .inl (dZ, 81, .inl (fun _ => 0)))] H := hP
  have hD : va_D A [(h0, .inr (0, [.int 0, .ref a0, .null, .null, .null, .int 0, .null, .null, .null, .int 0, .int 0, .null, .null, .null])), (a0, .inl (dI, 81, .inl (fun _ => 0))), (a1, .inl (dZ, 81, .inl (fun _ => 0)))] := hD
  refine va_putF (D := D) (ci := 0) (v := .ref a1) (ty := .array .boolean) (C := RX1) (T := TX1) (N := 14) C.x C.b C.t in_X1 tyX1 tyX1_ok nmX1 C.o C.2 hP hD hS 0 rfl rfl 2 (by decide) (C.t _ q30) (fun _ h9 => h9) rfl hin rfl (by decide +kernel) rfl rfl (Nat.le_of_ble_eq_true rfl) dX1_init_17 (fun H locs hP hD hS => ?_)
  have hP : va_P D vwCl [(h0, .inr (0, [.int 0, .ref a0, .ref a1, .null, .null, .int 0, .null, .null, .null, .int 0, .int 0, .null, .null, .null])), (a0, .inl (dI, 81, .inl (fun _ => 0))), (a1, .inl (dZ, 81, .inl (fun _ => 0)))] H := hP
  have hD : va_D A [(h0, .inr (0, [.int 0, .ref a0, .ref a1, .null, .null, .int 0, .null, .null, .null, .int 0, .int 0, .null, .null, .null])), (a0, .inl (dI, 81, .inl (fun _ => 0))), (a1, .inl (dZ, 81, .inl (fun _ => 0)))] := hD
  refine lv_aload_n C.x C.b dX1_init_20 rfl (lv_at hl 0 rfl) ?_
  refine lv_bipush (v := (nI 9)) C.x C.b dX1_init_21 (by decide) ?_
  refine g_newI C hP hD hS hA 9 rfl (by decide) (Nat.le_of_ble_eq_true rfl) (Nat.le_of_ble_eq_true rfl) dX1_init_23 (fun a2 H hP hD hS => ?_)
  have hP : va_P D vwCl [(h0, .inr (0, [.int 0, .ref a0, .ref a1, .null, .null, .int 0, .null, .null, .null, .int 0, .int 0, .null, .null, .null])), (a0, .inl (dI, 81, .inl (fun _ => 0))), (a1, .inl (dZ, 81, .inl (fun _ => 0))), (a2, .inl (dI, 9, .inl (fun _ => 0)))] H := hP
  have hD : va_D A [(h0, .inr (0, [.int 0, .ref a0, .ref a1, .null, .null, .int 0, .null, .null, .null, .int 0, .int 0, .null, .null, .null])), (a0, .inl (dI, 81, .inl (fun _ => 0))), (a1, .inl (dZ, 81, .inl (fun _ => 0))), (a2, .inl (dI, 9, .inl (fun _ => 0)))] := hD
  refine va_putF (D := D) (ci := 0) (v := .ref a2) (ty := .array .int) (C := RX1) (T := TX1) (N := 14) C.x C.b C.t in_X1 tyX1 tyX1_ok nmX1 C.o C.2 hP hD hS 0 rfl rfl 3 (by decide) (C.t _ q31) (fun _ h9 => h9) rfl hin rfl (by decide +kernel) rfl rfl (Nat.le_of_ble_eq_true rfl) dX1_init_25 (fun H locs hP hD hS => ?_)
  have hP : va_P D vwCl [(h0, .inr (0, [.int 0, .ref a0, .ref a1, .ref a2, .null, .int 0, .null, .null, .null, .int 0, .int 0, .null, .null, .null])), (a0, .inl (dI, 81, .inl (fun _ => 0))), (a1, .inl (dZ, 81, .inl (fun _ => 0))), (a2, .inl (dI, 9, .inl (fun _ => 0)))] H := hP
  have hD : va_D A [(h0, .inr (0, [.int 0, .ref a0, .ref a1, .ref a2, .null, .int 0, .null, .null, .null, .int 0, .int 0, .null, .null, .null])), (a0, .inl (dI, 81, .inl (fun _ => 0))), (a1, .inl (dZ, 81, .inl (fun _ => 0))), (a2, .inl (dI, 9, .inl (fun _ => 0)))] := hD
  refine lv_aload_n C.x C.b dX1_init_28 rfl (lv_at hl 0 rfl) ?_
  refine lv_bipush (v := (nI 81)) C.x C.b dX1_init_29 (by decide) ?_
  refine g_newI C hP hD hS hA 81 rfl (by decide) (Nat.le_of_ble_eq_true rfl) (Nat.le_of_ble_eq_true rfl) dX1_init_31 (fun a3 H hP hD hS => ?_)
  have hP : va_P D vwCl [(h0, .inr (0, [.int 0, .ref a0, .ref a1, .ref a2, .null, .int 0, .null, .null, .null, .int 0, .int 0, .null, .null, .null])), (a0, .inl (dI, 81, .inl (fun _ => 0))), (a1, .inl (dZ, 81, .inl (fun _ => 0))), (a2, .inl (dI, 9, .inl (fun _ => 0))), (a3, .inl (dI, 81, .inl (fun _ => 0)))] H := hP
  have hD : va_D A [(h0, .inr (0, [.int 0, .ref a0, .ref a1, .ref a2, .null, .int 0, .null, .null, .null, .int 0, .int 0, .null, .null, .null])), (a0, .inl (dI, 81, .inl (fun _ => 0))), (a1, .inl (dZ, 81, .inl (fun _ => 0))), (a2, .inl (dI, 9, .inl (fun _ => 0))), (a3, .inl (dI, 81, .inl (fun _ => 0)))] := hD
  refine va_putF (D := D) (ci := 0) (v := .ref a3) (ty := .array .int) (C := RX1) (T := TX1) (N := 14) C.x C.b C.t in_X1 tyX1 tyX1_ok nmX1 C.o C.2 hP hD hS 0 rfl rfl 4 (by decide) (C.t _ q32) (fun _ h9 => h9) rfl hin rfl (by decide +kernel) rfl rfl (Nat.le_of_ble_eq_true rfl) dX1_init_33 (fun H locs hP hD hS => ?_)
  have hP : va_P D vwCl [(h0, .inr (0, [.int 0, .ref a0, .ref a1, .ref a2, .ref a3, .int 0, .null, .null, .null, .int 0, .int 0, .null, .null, .null])), (a0, .inl (dI, 81, .inl (fun _ => 0))), (a1, .inl (dZ, 81, .inl (fun _ => 0))), (a2, .inl (dI, 9, .inl (fun _ => 0))), (a3, .inl (dI, 81, .inl (fun _ => 0)))] H := hP
  have hD : va_D A [(h0, .inr (0, [.int 0, .ref a0, .ref a1, .ref a2, .ref a3, .int 0, .null, .null, .null, .int 0, .int 0, .null, .null, .null])), (a0, .inl (dI, 81, .inl (fun _ => 0))), (a1, .inl (dZ, 81, .inl (fun _ => 0))), (a2, .inl (dI, 9, .inl (fun _ => 0))), (a3, .inl (dI, 81, .inl (fun _ => 0)))] := hD
  refine lv_aload_n C.x C.b dX1_init_36 rfl (lv_at hl 0 rfl) ?_
  refine lv_bipush (v := (nI 9)) C.x C.b dX1_init_37 (by decide) ?_
  refine g_newZ C hP hD hS hA 9 rfl (by decide) (Nat.le_of_ble_eq_true rfl) (Nat.le_of_ble_eq_true rfl) dX1_init_39 (fun a4 H hP hD hS => ?_)
  have hP : va_P D vwCl [(h0, .inr (0, [.int 0, .ref a0, .ref a1, .ref a2, .ref a3, .int 0, .null, .null, .null, .int 0, .int 0, .null, .null, .null])), (a0, .inl (dI, 81, .inl (fun _ => 0))), (a1, .inl (dZ, 81, .inl (fun _ => 0))), (a2, .inl (dI, 9, .inl (fun _ => 0))), (a3, .inl (dI, 81, .inl (fun _ => 0))), (a4, .inl (dZ, 9, .inl (fun _ => 0)))] H := hP
  have hD : va_D A [(h0, .inr (0, [.int 0, .ref a0, .ref a1, .ref a2, .ref a3, .int 0, .null, .null, .null, .int 0, .int 0, .null, .null, .null])), (a0, .inl (dI, 81, .inl (fun _ => 0))), (a1, .inl (dZ, 81, .inl (fun _ => 0))), (a2, .inl (dI, 9, .inl (fun _ => 0))), (a3, .inl (dI, 81, .inl (fun _ => 0))), (a4, .inl (dZ, 9, .inl (fun _ => 0)))] := hD
  refine va_putF (D := D) (ci := 0) (v := .ref a4) (ty := .array .boolean) (C := RX1) (T := TX1) (N := 14) C.x C.b C.t in_X1 tyX1 tyX1_ok nmX1 C.o C.2 hP hD hS 0 rfl rfl 6 (by decide) (C.t _ q34) (fun _ h9 => h9) rfl hin rfl (by decide +kernel) rfl rfl (Nat.le_of_ble_eq_true rfl) dX1_init_41 (fun H locs hP hD hS => ?_)
  have hP : va_P D vwCl [(h0, .inr (0, [.int 0, .ref a0, .ref a1, .ref a2, .ref a3, .int 0, .ref a4, .null, .null, .int 0, .int 0, .null, .null, .null])), (a0, .inl (dI, 81, .inl (fun _ => 0))), (a1, .inl (dZ, 81, .inl (fun _ => 0))), (a2, .inl (dI, 9, .inl (fun _ => 0))), (a3, .inl (dI, 81, .inl (fun _ => 0))), (a4, .inl (dZ, 9, .inl (fun _ => 0)))] H := hP
  have hD : va_D A [(h0, .inr (0, [.int 0, .ref a0, .ref a1, .ref a2, .ref a3, .int 0, .ref a4, .null, .null, .int 0, .int 0, .null, .null, .null])), (a0, .inl (dI, 81, .inl (fun _ => 0))), (a1, .inl (dZ, 81, .inl (fun _ => 0))), (a2, .inl (dI, 9, .inl (fun _ => 0))), (a3, .inl (dI, 81, .inl (fun _ => 0))), (a4, .inl (dZ, 9, .inl (fun _ => 0)))] := hD
  refine lv_aload_n C.x C.b dX1_init_44 rfl (lv_at hl 0 rfl) ?_
  refine lv_bipush (v := (nI 9)) C.x C.b dX1_init_45 (by decide) ?_
  refine g_newZ C hP hD hS hA 9 rfl (by decide) (Nat.le_of_ble_eq_true rfl) (Nat.le_of_ble_eq_true rfl) dX1_init_47 (fun a5 H hP hD hS => ?_)
  have hP : va_P D vwCl [(h0, .inr (0, [.int 0, .ref a0, .ref a1, .ref a2, .ref a3, .int 0, .ref a4, .null, .null, .int 0, .int 0, .null, .null, .null])), (a0, .inl (dI, 81, .inl (fun _ => 0))), (a1, .inl (dZ, 81, .inl (fun _ => 0))), (a2, .inl (dI, 9, .inl (fun _ => 0))), (a3, .inl (dI, 81, .inl (fun _ => 0))), (a4, .inl (dZ, 9, .inl (fun _ => 0))), (a5, .inl (dZ, 9, .inl (fun _ => 0)))] H := hP
  have hD : va_D A [(h0, .inr (0, [.int 0, .ref a0, .ref a1, .ref a2, .ref a3, .int 0, .ref a4, .null, .null, .int 0, .int 0, .null, .null, .null])), (a0, .inl (dI, 81, .inl (fun _ => 0))), (a1, .inl (dZ, 81, .inl (fun _ => 0))), (a2, .inl (dI, 9, .inl (fun _ => 0))), (a3, .inl (dI, 81, .inl (fun _ => 0))), (a4, .inl (dZ, 9, .inl (fun _ => 0))), (a5, .inl (dZ, 9, .inl (fun _ => 0)))] := hD
  refine va_putF (D := D) (ci := 0) (v := .ref a5) (ty := .array .boolean) (C := RX1) (T := TX1) (N := 14) C.x C.b C.t in_X1 tyX1 tyX1_ok nmX1 C.o C.2 hP hD hS 0 rfl rfl 7 (by decide) (C.t _ q35) (fun _ h9 => h9) rfl hin rfl (by decide +kernel) rfl rfl (Nat.le_of_ble_eq_true rfl) dX1_init_49 (fun H locs hP hD hS => ?_)
  have hP : va_P D vwCl [(h0, .inr (0, [.int 0, .ref a0, .ref a1, .ref a2, .ref a3, .int 0, .ref a4, .ref a5, .null, .int 0, .int 0, .null, .null, .null])), (a0, .inl (dI, 81, .inl (fun _ => 0))), (a1, .inl (dZ, 81, .inl (fun _ => 0))), (a2, .inl (dI, 9, .inl (fun _ => 0))), (a3, .inl (dI, 81, .inl (fun _ => 0))), (a4, .inl (dZ, 9, .inl (fun _ => 0))), (a5, .inl (dZ, 9, .inl (fun _ => 0)))] H := hP
  have hD : va_D A [(h0, .inr (0, [.int 0, .ref a0, .ref a1, .ref a2, .ref a3, .int 0, .ref a4, .ref a5, .null, .int 0, .int 0, .null, .null, .null])), (a0, .inl (dI, 81, .inl (fun _ => 0))), (a1, .inl (dZ, 81, .inl (fun _ => 0))), (a2, .inl (dI, 9, .inl (fun _ => 0))), (a3, .inl (dI, 81, .inl (fun _ => 0))), (a4, .inl (dZ, 9, .inl (fun _ => 0))), (a5, .inl (dZ, 9, .inl (fun _ => 0)))] := hD
  refine lv_aload_n C.x C.b dX1_init_52 rfl (lv_at hl 0 rfl) ?_
  refine lv_bipush (v := (nI 9)) C.x C.b dX1_init_53 (by decide) ?_
  refine g_newI C hP hD hS hA 9 rfl (by decide) (Nat.le_of_ble_eq_true rfl) (Nat.le_of_ble_eq_true rfl) dX1_init_55 (fun a6 H hP hD hS => ?_)
  have hP : va_P D vwCl [(h0, .inr (0, [.int 0, .ref a0, .ref a1, .ref a2, .ref a3, .int 0, .ref a4, .ref a5, .null, .int 0, .int 0, .null, .null, .null])), (a0, .inl (dI, 81, .inl (fun _ => 0))), (a1, .inl (dZ, 81, .inl (fun _ => 0))), (a2, .inl (dI, 9, .inl (fun _ => 0))), (a3, .inl (dI, 81, .inl (fun _ => 0))), (a4, .inl (dZ, 9, .inl (fun _ => 0))), (a5, .inl (dZ, 9, .inl (fun _ => 0))), (a6, .inl (dI, 9, .inl (fun _ => 0)))] H := hP
  have hD : va_D A [(h0, .inr (0, [.int 0, .ref a0, .ref a1, .ref a2, .ref a3, .int 0, .ref a4, .ref a5, .null, .int 0, .int 0, .null, .null, .null])), (a0, .inl (dI, 81, .inl (fun _ => 0))), (a1, .inl (dZ, 81, .inl (fun _ => 0))), (a2, .inl (dI, 9, .inl (fun _ => 0))), (a3, .inl (dI, 81, .inl (fun _ => 0))), (a4, .inl (dZ, 9, .inl (fun _ => 0))), (a5, .inl (dZ, 9, .inl (fun _ => 0))), (a6, .inl (dI, 9, .inl (fun _ => 0)))] := hD
  refine va_putF (D := D) (ci := 0) (v := .ref a6) (ty := .array .int) (C := RX1) (T := TX1) (N := 14) C.x C.b C.t in_X1 tyX1 tyX1_ok nmX1 C.o C.2 hP hD hS 0 rfl rfl 8 (by decide) (C.t _ q36) (fun _ h9 => h9) rfl hin rfl (by decide +kernel) rfl rfl (Nat.le_of_ble_eq_true rfl) dX1_init_57 (fun H locs hP hD hS => ?_)
  have hP : va_P D vwCl [(h0, .inr (0, [.int 0, .ref a0, .ref a1, .ref a2, .ref a3, .int 0, .ref a4, .ref a5, .ref a6, .int 0, .int 0, .null, .null, .null])), (a0, .inl (dI, 81, .inl (fun _ => 0))), (a1, .inl (dZ, 81, .inl (fun _ => 0))), (a2, .inl (dI, 9, .inl (fun _ => 0))), (a3, .inl (dI, 81, .inl (fun _ => 0))), (a4, .inl (dZ, 9, .inl (fun _ => 0))), (a5, .inl (dZ, 9, .inl (fun _ => 0))), (a6, .inl (dI, 9, .inl (fun _ => 0)))] H := hP
  have hD : va_D A [(h0, .inr (0, [.int 0, .ref a0, .ref a1, .ref a2, .ref a3, .int 0, .ref a4, .ref a5, .ref a6, .int 0, .int 0, .null, .null, .null])), (a0, .inl (dI, 81, .inl (fun _ => 0))), (a1, .inl (dZ, 81, .inl (fun _ => 0))), (a2, .inl (dI, 9, .inl (fun _ => 0))), (a3, .inl (dI, 81, .inl (fun _ => 0))), (a4, .inl (dZ, 9, .inl (fun _ => 0))), (a5, .inl (dZ, 9, .inl (fun _ => 0))), (a6, .inl (dI, 9, .inl (fun _ => 0)))] := hD
  refine lv_aload_n C.x C.b dX1_init_60 rfl (lv_at hl 0 rfl) ?_
  refine lv_bipush (v := (nI 81)) C.x C.b dX1_init_61 (by decide) ?_
  refine g_newI C hP hD hS hA 81 rfl (by decide) (Nat.le_of_ble_eq_true rfl) (Nat.le_of_ble_eq_true rfl) dX1_init_63 (fun a7 H hP hD hS => ?_)
  have hP : va_P D vwCl [(h0, .inr (0, [.int 0, .ref a0, .ref a1, .ref a2, .ref a3, .int 0, .ref a4, .ref a5, .ref a6, .int 0, .int 0, .null, .null, .null])), (a0, .inl (dI, 81, .inl (fun _ => 0))), (a1, .inl (dZ, 81, .inl (fun _ => 0))), (a2, .inl (dI, 9, .inl (fun _ => 0))), (a3, .inl (dI, 81, .inl (fun _ => 0))), (a4, .inl (dZ, 9, .inl (fun _ => 0))), (a5, .inl (dZ, 9, .inl (fun _ => 0))), (a6, .inl (dI, 9, .inl (fun _ => 0))), (a7, .inl (dI, 81, .inl (fun _ => 0)))] H := hP
  have hD : va_D A [(h0, .inr (0, [.int 0, .ref a0, .ref a1, .ref a2, .ref a3, .int 0, .ref a4, .ref a5, .ref a6, .int 0, .int 0, .null, .null, .null])), (a0, .inl (dI, 81, .inl (fun _ => 0))), (a1, .inl (dZ, 81, .inl (fun _ => 0))), (a2, .inl (dI, 9, .inl (fun _ => 0))), (a3, .inl (dI, 81, .inl (fun _ => 0))), (a4, .inl (dZ, 9, .inl (fun _ => 0))), (a5, .inl (dZ, 9, .inl (fun _ => 0))), (a6, .inl (dI, 9, .inl (fun _ => 0))), (a7, .inl (dI, 81, .inl (fun _ => 0)))] := hD
  refine va_putF (D := D) (ci := 0) (v := .ref a7) (ty := .array .int) (C := RX1) (T := TX1) (N := 14) C.x C.b C.t in_X1 tyX1 tyX1_ok nmX1 C.o C.2 hP hD hS 0 rfl rfl 11 (by decide) (C.t _ q39) (fun _ h9 => h9) rfl hin rfl (by decide +kernel) rfl rfl (Nat.le_of_ble_eq_true rfl) dX1_init_65 (fun H locs hP hD hS => ?_)
  have hP : va_P D vwCl [(h0, .inr (0, [.int 0, .ref a0, .ref a1, .ref a2, .ref a3, .int 0, .ref a4, .ref a5, .ref a6, .int 0, .int 0, .ref a7, .null, .null])), (a0, .inl (dI, 81, .inl (fun _ => 0))), (a1, .inl (dZ, 81, .inl (fun _ => 0))), (a2, .inl (dI, 9, .inl (fun _ => 0))), (a3, .inl (dI, 81, .inl (fun _ => 0))), (a4, .inl (dZ, 9, .inl (fun _ => 0))), (a5, .inl (dZ, 9, .inl (fun _ => 0))), (a6, .inl (dI, 9, .inl (fun _ => 0))), (a7, .inl (dI, 81, .inl (fun _ => 0)))] H := hP
  have hD : va_D A [(h0, .inr (0, [.int 0, .ref a0, .ref a1, .ref a2, .ref a3, .int 0, .ref a4, .ref a5, .ref a6, .int 0, .int 0, .ref a7, .null, .null])), (a0, .inl (dI, 81, .inl (fun _ => 0))), (a1, .inl (dZ, 81, .inl (fun _ => 0))), (a2, .inl (dI, 9, .inl (fun _ => 0))), (a3, .inl (dI, 81, .inl (fun _ => 0))), (a4, .inl (dZ, 9, .inl (fun _ => 0))), (a5, .inl (dZ, 9, .inl (fun _ => 0))), (a6, .inl (dI, 9, .inl (fun _ => 0))), (a7, .inl (dI, 81, .inl (fun _ => 0)))] := hD
  refine lv_aload_n C.x C.b dX1_init_68 rfl (lv_at hl 0 rfl) ?_
  refine lv_bipush (v := (nI 9)) C.x C.b dX1_init_69 (by decide) ?_
  refine g_newI C hP hD hS hA 9 rfl (by decide) (Nat.le_of_ble_eq_true rfl) (Nat.le_of_ble_eq_true rfl) dX1_init_71 (fun a8 H hP hD hS => ?_)
  have hP : va_P D vwCl [(h0, .inr (0, [.int 0, .ref a0, .ref a1, .ref a2, .ref a3, .int 0, .ref a4, .ref a5, .ref a6, .int 0, .int 0, .ref a7, .null, .null])), (a0, .inl (dI, 81, .inl (fun _ => 0))), (a1, .inl (dZ, 81, .inl (fun _ => 0))), (a2, .inl (dI, 9, .inl (fun _ => 0))), (a3, .inl (dI, 81, .inl (fun _ => 0))), (a4, .inl (dZ, 9, .inl (fun _ => 0))), (a5, .inl (dZ, 9, .inl (fun _ => 0))), (a6, .inl (dI, 9, .inl (fun _ => 0))), (a7, .inl (dI, 81, .inl (fun _ => 0))), (a8, .inl (dI, 9, .inl (fun _ => 0)))] H := hP
  have hD : va_D A [(h0, .inr (0, [.int 0, .ref a0, .ref a1, .ref a2, .ref a3, .int 0, .ref a4, .ref a5, .ref a6, .int 0, .int 0, .ref a7, .null, .null])), (a0, .inl (dI, 81, .inl (fun _ => 0))), (a1, .inl (dZ, 81, .inl (fun _ => 0))), (a2, .inl (dI, 9, .inl (fun _ => 0))), (a3, .inl (dI, 81, .inl (fun _ => 0))), (a4, .inl (dZ, 9, .inl (fun _ => 0))), (a5, .inl (dZ, 9, .inl (fun _ => 0))), (a6, .inl (dI, 9, .inl (fun _ => 0))), (a7, .inl (dI, 81, .inl (fun _ => 0))), (a8, .inl (dI, 9, .inl (fun _ => 0)))] := hD
  refine va_putF (D := D) (ci := 0) (v := .ref a8) (ty := .array .int) (C := RX1) (T := TX1) (N := 14) C.x C.b C.t in_X1 tyX1 tyX1_ok nmX1 C.o C.2 hP hD hS 0 rfl rfl 12 (by decide) (C.t _ q40) (fun _ h9 => h9) rfl hin rfl (by decide +kernel) rfl rfl (Nat.le_of_ble_eq_true rfl) dX1_init_73 (fun H locs hP hD hS => ?_)
  have hP : va_P D vwCl [(h0, .inr (0, [.int 0, .ref a0, .ref a1, .ref a2, .ref a3, .int 0, .ref a4, .ref a5, .ref a6, .int 0, .int 0, .ref a7, .ref a8, .null])), (a0, .inl (dI, 81, .inl (fun _ => 0))), (a1, .inl (dZ, 81, .inl (fun _ => 0))), (a2, .inl (dI, 9, .inl (fun _ => 0))), (a3, .inl (dI, 81, .inl (fun _ => 0))), (a4, .inl (dZ, 9, .inl (fun _ => 0))), (a5, .inl (dZ, 9, .inl (fun _ => 0))), (a6, .inl (dI, 9, .inl (fun _ => 0))), (a7, .inl (dI, 81, .inl (fun _ => 0))), (a8, .inl (dI, 9, .inl (fun _ => 0)))] H := hP
  have hD : va_D A [(h0, .inr (0, [.int 0, .ref a0, .ref a1, .ref a2, .ref a3, .int 0, .ref a4, .ref a5, .ref a6, .int 0, .int 0, .ref a7, .ref a8, .null])), (a0, .inl (dI, 81, .inl (fun _ => 0))), (a1, .inl (dZ, 81, .inl (fun _ => 0))), (a2, .inl (dI, 9, .inl (fun _ => 0))), (a3, .inl (dI, 81, .inl (fun _ => 0))), (a4, .inl (dZ, 9, .inl (fun _ => 0))), (a5, .inl (dZ, 9, .inl (fun _ => 0))), (a6, .inl (dI, 9, .inl (fun _ => 0))), (a7, .inl (dI, 81, .inl (fun _ => 0))), (a8, .inl (dI, 9, .inl (fun _ => 0)))] := hD
  refine lv_aload_n C.x C.b dX1_init_76 rfl (lv_at hl 0 rfl) ?_
  refine lv_bipush (v := (nI 9)) C.x C.b dX1_init_77 (by decide) ?_
  refine g_newI C hP hD hS hA 9 rfl (by decide) (Nat.le_of_ble_eq_true rfl) (Nat.le_of_ble_eq_true rfl) dX1_init_79 (fun a9 H hP hD hS => ?_)
  have hP : va_P D vwCl [(h0, .inr (0, [.int 0, .ref a0, .ref a1, .ref a2, .ref a3, .int 0, .ref a4, .ref a5, .ref a6, .int 0, .int 0, .ref a7, .ref a8, .null])), (a0, .inl (dI, 81, .inl (fun _ => 0))), (a1, .inl (dZ, 81, .inl (fun _ => 0))), (a2, .inl (dI, 9, .inl (fun _ => 0))), (a3, .inl (dI, 81, .inl (fun _ => 0))), (a4, .inl (dZ, 9, .inl (fun _ => 0))), (a5, .inl (dZ, 9, .inl (fun _ => 0))), (a6, .inl (dI, 9, .inl (fun _ => 0))), (a7, .inl (dI, 81, .inl (fun _ => 0))), (a8, .inl (dI, 9, .inl (fun _ => 0))), (a9, .inl (dI, 9, .inl (fun _ => 0)))] H := hP
  have hD : va_D A [(h0, .inr (0, [.int 0, .ref a0, .ref a1, .ref a2, .ref a3, .int 0, .ref a4, .ref a5, .ref a6, .int 0, .int 0, .ref a7, .ref a8, .null])), (a0, .inl (dI, 81, .inl (fun _ => 0))), (a1, .inl (dZ, 81, .inl (fun _ => 0))), (a2, .inl (dI, 9, .inl (fun _ => 0))), (a3, .inl (dI, 81, .inl (fun _ => 0))), (a4, .inl (dZ, 9, .inl (fun _ => 0))), (a5, .inl (dZ, 9, .inl (fun _ => 0))), (a6, .inl (dI, 9, .inl (fun _ => 0))), (a7, .inl (dI, 81, .inl (fun _ => 0))), (a8, .inl (dI, 9, .inl (fun _ => 0))), (a9, .inl (dI, 9, .inl (fun _ => 0)))] := hD
  refine va_putF (D := D) (ci := 0) (v := .ref a9) (ty := .array .int) (C := RX1) (T := TX1) (N := 14) C.x C.b C.t in_X1 tyX1 tyX1_ok nmX1 C.o C.2 hP hD hS 0 rfl rfl 13 (by decide) (C.t _ q41) (fun _ h9 => h9) rfl hin rfl (by decide +kernel) rfl rfl (Nat.le_of_ble_eq_true rfl) dX1_init_81 (fun H locs hP hD hS => ?_)
  have hP : va_P D vwCl [(h0, .inr (0, [.int 0, .ref a0, .ref a1, .ref a2, .ref a3, .int 0, .ref a4, .ref a5, .ref a6, .int 0, .int 0, .ref a7, .ref a8, .ref a9])), (a0, .inl (dI, 81, .inl (fun _ => 0))), (a1, .inl (dZ, 81, .inl (fun _ => 0))), (a2, .inl (dI, 9, .inl (fun _ => 0))), (a3, .inl (dI, 81, .inl (fun _ => 0))), (a4, .inl (dZ, 9, .inl (fun _ => 0))), (a5, .inl (dZ, 9, .inl (fun _ => 0))), (a6, .inl (dI, 9, .inl (fun _ => 0))), (a7, .inl (dI, 81, .inl (fun _ => 0))), (a8, .inl (dI, 9, .inl (fun _ => 0))), (a9, .inl (dI, 9, .inl (fun _ => 0)))] H := hP
  have hD : va_D A [(h0, .inr (0, [.int 0, .ref a0, .ref a1, .ref a2, .ref a3, .int 0, .ref a4, .ref a5, .ref a6, .int 0, .int 0, .ref a7, .ref a8, .ref a9])), (a0, .inl (dI, 81, .inl (fun _ => 0))), (a1, .inl (dZ, 81, .inl (fun _ => 0))), (a2, .inl (dI, 9, .inl (fun _ => 0))), (a3, .inl (dI, 81, .inl (fun _ => 0))), (a4, .inl (dZ, 9, .inl (fun _ => 0))), (a5, .inl (dZ, 9, .inl (fun _ => 0))), (a6, .inl (dI, 9, .inl (fun _ => 0))), (a7, .inl (dI, 81, .inl (fun _ => 0))), (a8, .inl (dI, 9, .inl (fun _ => 0))), (a9, .inl (dI, 9, .inl (fun _ => 0)))] := hD
  refine lv_iload_n C.x C.b dX1_init_84 rfl (lv_at hl 1 rfl) ?_
  refine lv_istore_n (lv' := [(2, .int v), (0, .ref h0), (1, .int v)]) C.x C.b dX1_init_85 rfl hl (by decide) rfl (fun ls hl => ?_)
  refine lv_iload_n C.x C.b dX1_init_86 rfl (lv_at hl 0 rfl) ?_
  refine lv_iconst (v := 2) C.x C.b dX1_init_87 (by decide) ?_
  refine lv_icmp_ge (tgt := 93) C.x C.b dX1_init_88 (by decide) (fun c1 => ?_) (fun c1 => ?_)
  · refine lv_iload_n C.x C.b dX1_init_93 rfl (lv_at hl 0 rfl) ?_
    refine lv_bipush (v := 9) C.x C.b dX1_init_94 (by decide) ?_
    refine lv_icmp_le (tgt := 102) C.x C.b dX1_init_96 (by decide) (fun c2 => ?_) (fun c2 => ?_)
    · refine lv_aload_n C.x C.b dX1_init_102 rfl (lv_at hl 1 rfl) ?_
      refine lv_iload_n C.x C.b dX1_init_103 rfl (lv_at hl 0 rfl) ?_
      refine va_putF (D := D) (ci := 0) (v := .int v) (ty := .int) (C := RX1) (T := TX1) (N := 14) C.x C.b C.t in_X1 tyX1 tyX1_ok nmX1 C.o C.2 hP hD hS 0 rfl rfl 0 (by decide) (C.t _ q28) (fun _ h9 => h9) rfl hin rfl (by decide +kernel) rfl rfl (Nat.le_of_ble_eq_true rfl) dX1_init_104 (fun H locs hP hD hS => ?_)
      have en : v = nI (p_nn v) := by unfold p_nn; rw [if_pos c1, if_pos c2]; exact (show g_in 10 v from by obtain ⟨j, h1, h2⟩ := nI_of2 (x := v) (M := 9) (n := 9) (by decide) (fun h3 => absurd (Int32.lt_of_lt_of_le h3 (show (0 : Int32) ≤ 2 by decide)) (Int32.not_lt.mpr c1)) c2; exact ⟨j, by omega, h2⟩).e
      rw [en] at hP hD
      exact W.vret C.x C.b hr (fun t ht hW => ⟨⟨g_ad [0, a0, a1, a2, a3, 0, a4, a5, a6, 0, 0, a7, a8, a9], rfl, trivial, by rw [ht]; exact hP, va_K.moved hW.alike C.2, hD⟩, hS.F ht⟩) hS.2.2 dX1_init_107
    · refine lv_bipush (v := 9) C.x C.b dX1_init_99 (by decide) ?_
      refine lv_istore_n (lv' := [(2, .int 9), (0, .ref h0), (1, .int v)]) C.x C.b dX1_init_101 rfl hl (by decide) rfl (fun ls hl => ?_)
      refine lv_aload_n C.x C.b dX1_init_102 rfl (lv_at hl 1 rfl) ?_
      refine lv_iload_n C.x C.b dX1_init_103 rfl (lv_at hl 0 rfl) ?_
      refine va_putF (D := D) (ci := 0) (v := .int 9) (ty := .int) (C := RX1) (T := TX1) (N := 14) C.x C.b C.t in_X1 tyX1 tyX1_ok nmX1 C.o C.2 hP hD hS 0 rfl rfl 0 (by decide) (C.t _ q28) (fun _ h9 => h9) rfl hin rfl (by decide +kernel) rfl rfl (Nat.le_of_ble_eq_true rfl) dX1_init_104 (fun H locs hP hD hS => ?_)
      have en : 9 = nI (p_nn v) := by unfold p_nn; rw [if_pos c1, if_neg c2]; rfl
      rw [en] at hP hD
      exact W.vret C.x C.b hr (fun t ht hW => ⟨⟨g_ad [0, a0, a1, a2, a3, 0, a4, a5, a6, 0, 0, a7, a8, a9], rfl, trivial, by rw [ht]; exact hP, va_K.moved hW.alike C.2, hD⟩, hS.F ht⟩) hS.2.2 dX1_init_107
  · refine lv_iconst (v := 2) C.x C.b dX1_init_91 (by decide) ?_
    refine lv_istore_n (lv' := [(2, .int 2), (0, .ref h0), (1, .int v)]) C.x C.b dX1_init_92 rfl hl (by decide) rfl (fun ls hl => ?_)
    refine lv_iload_n C.x C.b dX1_init_93 rfl (lv_at hl 0 rfl) ?_
    refine lv_bipush (v := 9) C.x C.b dX1_init_94 (by decide) ?_
    refine lv_icmp_le (tgt := 102) C.x C.b dX1_init_96 (by decide) (fun _ => ?_) (fun hq => absurd (by decide) hq)
    refine lv_aload_n C.x C.b dX1_init_102 rfl (lv_at hl 1 rfl) ?_
    refine lv_iload_n C.x C.b dX1_init_103 rfl (lv_at hl 0 rfl) ?_
    refine va_putF (D := D) (ci := 0) (v := .int 2) (ty := .int) (C := RX1) (T := TX1) (N := 14) C.x C.b C.t in_X1 tyX1 tyX1_ok nmX1 C.o C.2 hP hD hS 0 rfl rfl 0 (by decide) (C.t _ q28) (fun _ h9 => h9) rfl hin rfl (by decide +kernel) rfl rfl (Nat.le_of_ble_eq_true rfl) dX1_init_104 (fun H locs hP hD hS => ?_)
    have en : 2 = nI (p_nn v) := by unfold p_nn; rw [if_neg c1]; rfl
    rw [en] at hP hD
    exact W.vret C.x C.b hr (fun t ht hW => ⟨⟨g_ad [0, a0, a1, a2, a3, 0, a4, a5, a6, 0, 0, a7, a8, a9], rfl, trivial, by rw [ht]; exact hP, va_K.moved hW.alike C.2, hD⟩, hS.F ht⟩) hS.2.2 dX1_init_107
set_option maxHeartbeats 2000000 in
theorem m2_init (l : Launch) (D : va_G) (dI dZ : ClassId) (h0 sz : Nat) (v : Int32) : Met l yX2_init (ws_ yX2_init cX2_init 3 none) ({ frames := 1, cells := 2, slots := 162, locals := 12 } : Room) (va_Pc [.ref h0, .int v] (fun U => U.heap.size = sz ∧ va_P D vwCl [(h0, .inr (1, g2_nil))] U.heap ∧ va_K D vwCl (g_tys dI dZ) U ∧ va_D (fun _ => True) [(h0, .inr (1, g2_nil))])) (va_Qv (fun _ : Nat → Nat => True) (fun ad t => va_P D vwCl (g2_w dI dZ h0 ad (p_nn v) (fun _ _ => 0)) t.heap ∧ va_K D vwCl (g_tys dI dZ) t ∧ va_D (va_A [(h0, .inr (1, g2_nil))] sz) (g2_w dI dZ h0 ad (p_nn v) (fun _ _ => 0))) (va_A [(h0, .inr (1, g2_nil))] sz)) 2 162 (va_A [(h0, .inr (1, g2_nil))] sz) := by
  refine Met.ofW (cc := cX2_init) (maxL := 3) (ret := none) (by decide +kernel) rfl ?_
  intro p e s m args below meth c s₁ B hml hv
  obtain ⟨rfl, hsz, hP, hK, hD0⟩ := hv
  subst hsz
  have hr := B.returns
  have hts := atoms_spec (ws := ws_ yX2_init cX2_init 3 none) B.pre
  have hts : ∀ w ∈ lw_all, w.before _ s = true := fun w h => hts w (List.mem_cons_of_mem _ h)
  have hown : s.vm.findClass RX2 = some m.cls := findClass_of_methodNamed B.named
  have hlocks := B.notSynchronized
  have hin : meth.name = "<init>" := (name_of_methodNamed B.named B.method).1
  have hD := hD0.self (sz := s.heap.size)
  generalize hAe : va_A [(h0, .inr (1, g2_nil))] s.heap.size = A at hD ⊢
  have hA : ∀ q : Nat, s.heap.size ≤ q → A q := fun q h => by rw [← hAe]; exact Or.inr h
  have hS : va_S A s.heap s.heap [] := va_S.rf
  have C : g_C RX2 p s m ([.ref h0, .int v] : List Value).toArray c cX2_init 3 D dI dZ := ⟨⟨B.exec, B.bytes, hml, hown, hts⟩, hK⟩
  have hl := lv_entry ([.ref h0, .int v]) (n := 3) (Nat.le_of_ble_eq_true rfl)
  rw [lg_entry_eq]
  generalize (lg_sl ([.ref h0, .int v]) ++ List.replicate (3 - (lg_sl ([.ref h0, .int v])).length) Slot.unset).toArray = ls at hl ⊢
  have hl : lv_has ls 3 [(0, .ref h0), (1, .int v)] := hl
  refine lv_aload_n C.x C.b dX2_init_0 rfl (lv_at hl 0 rfl) ?_
  refine W.objInit C.x C.b C.o (C.t _ q171) (C.t _ q26) (C.t _ q27) rfl (by rw [hml]; exact hl.1) rfl dX2_init_1 (Nat.le_of_ble_eq_true rfl) (Nat.le_of_ble_eq_true rfl) ?_
  refine W.eq (g2 := F0 m 4 ls []) rfl ?_
  refine lv_aload_n C.x C.b dX2_init_4 rfl (lv_at hl 0 rfl) ?_
  refine lv_bipush (v := (nI 81)) C.x C.b dX2_init_5 (by decide) ?_
  refine g_newI C hP hD hS hA 81 rfl (by decide) (Nat.le_of_ble_eq_true rfl) (Nat.le_of_ble_eq_true rfl) dX2_init_7 (fun a0 H hP hD hS => ?_)
  have hP : va_P D vwCl [(h0, .inr (1, [.int 0, .null, .null])), (a0, .inl (dI, 81, .inl (fun _ => 0)))] H := hP
  have hD : va_D A [(h0, .inr (1, [.int 0, .null, .null])), (a0, .inl (dI, 81, .inl (fun _ => 0)))] := hD
  refine va_putF (D := D) (ci := 1) (v := .ref a0) (ty := .array .int) (C := RX2) (T := TX2) (N := 3) C.x C.b C.t in_X2 tyX2 tyX2_ok nmX2 C.o C.2 hP hD hS 0 rfl rfl 1 (by decide) (C.t _ q173) (fun _ h9 => h9) rfl hin rfl (by decide +kernel) rfl rfl (Nat.le_of_ble_eq_true rfl) dX2_init_9 (fun H locs hP hD hS => ?_)
  have hP : va_P D vwCl [(h0, .inr (1, [.int 0, .ref a0, .null])), (a0, .inl (dI, 81, .inl (fun _ => 0)))] H := hP
  have hD : va_D A [(h0, .inr (1, [.int 0, .ref a0, .null])), (a0, .inl (dI, 81, .inl (fun _ => 0)))] := hD
  refine lv_aload_n C.x C.b dX2_init_12 rfl (lv_at hl 0 rfl) ?_
  refine lv_bipush (v := (nI 81)) C.x C.b dX2_init_13 (by decide) ?_
  refine g_newZ C hP hD hS hA 81 rfl (by decide) (Nat.le_of_ble_eq_true rfl) (Nat.le_of_ble_eq_true rfl) dX2_init_15 (fun a1 H hP hD hS => ?_)
  have hP : va_P D vwCl [(h0, .inr (1, [.int 0, .ref a0, .null])), (a0, .inl (dI, 81, .inl (fun _ => 0))), (a1, .inl (dZ, 81, .inl (fun _ => 0)))] H := hP
  have hD : va_D A [(h0, .inr (1, [.int 0, .ref a0, .null])), (a0, .inl (dI, 81, .inl (fun _ => 0))), (a1, .inl (dZ, 81, .inl (fun _ => 0)))] := hD
  refine va_putF (D := D) (ci := 1) (v := .ref a1) (ty := .array .boolean) (C := RX2) (T := TX2) (N := 3) C.x C.b C.t in_X2 tyX2 tyX2_ok nmX2 C.o C.2 hP hD hS 0 rfl rfl 2 (by decide) (C.t _ q174) (fun _ h9 => h9) rfl hin rfl (by decide +kernel) rfl rfl (Nat.le_of_ble_eq_true rfl) dX2_init_17 (fun H locs hP hD hS => ?_)
  have hP : va_P D vwCl [(h0, .inr (1, [.int 0, .ref a0, .ref a1])), (a0, .inl (dI, 81, .inl (fun _ => 0))), (a1, .inl (dZ, 81, .inl (fun _ => 0)))] H := hP
  have hD : va_D A [(h0, .inr (1, [.int 0, .ref a0, .ref a1])), (a0, .inl (dI, 81, .inl (fun _ => 0))), (a1, .inl (dZ, 81, .inl (fun _ => 0)))] := hD
  refine lv_iload_n C.x C.b dX2_init_20 rfl (lv_at hl 1 rfl) ?_
  refine lv_istore_n (lv' := [(2, .int v), (0, .ref h0), (1, .int v)]) C.x C.b dX2_init_21 rfl hl (by decide) rfl (fun ls hl => ?_)
  refine lv_iload_n C.x C.b dX2_init_22 rfl (lv_at hl 0 rfl) ?_
  refine lv_iconst (v := 2) C.x C.b dX2_init_23 (by decide) ?_
  refine lv_icmp_ge (tgt := 29) C.x C.b dX2_init_24 (by decide) (fun c1 => ?_) (fun c1 => ?_)
  · refine lv_iload_n C.x C.b dX2_init_29 rfl (lv_at hl 0 rfl) ?_
    refine lv_bipush (v := 9) C.x C.b dX2_init_30 (by decide) ?_
    refine lv_icmp_le (tgt := 38) C.x C.b dX2_init_32 (by decide) (fun c2 => ?_) (fun c2 => ?_)
    · refine lv_aload_n C.x C.b dX2_init_38 rfl (lv_at hl 1 rfl) ?_
      refine lv_iload_n C.x C.b dX2_init_39 rfl (lv_at hl 0 rfl) ?_
      refine va_putF (D := D) (ci := 1) (v := .int v) (ty := .int) (C := RX2) (T := TX2) (N := 3) C.x C.b C.t in_X2 tyX2 tyX2_ok nmX2 C.o C.2 hP hD hS 0 rfl rfl 0 (by decide) (C.t _ q172) (fun _ h9 => h9) rfl hin rfl (by decide +kernel) rfl rfl (Nat.le_of_ble_eq_true rfl) dX2_init_40 (fun H locs hP hD hS => ?_)
      have en : v = nI (p_nn v) := by unfold p_nn; rw [if_pos c1, if_pos c2]; exact (show g_in 10 v from by obtain ⟨j, h1, h2⟩ := nI_of2 (x := v) (M := 9) (n := 9) (by decide) (fun h3 => absurd (Int32.lt_of_lt_of_le h3 (show (0 : Int32) ≤ 2 by decide)) (Int32.not_lt.mpr c1)) c2; exact ⟨j, by omega, h2⟩).e
      rw [en] at hP hD
      exact W.vret C.x C.b hr (fun t ht hW => ⟨⟨g_ad [0, a0, a1], rfl, trivial, by rw [ht]; exact hP, va_K.moved hW.alike C.2, hD⟩, hS.F ht⟩) hS.2.2 dX2_init_43
    · refine lv_bipush (v := 9) C.x C.b dX2_init_35 (by decide) ?_
      refine lv_istore_n (lv' := [(2, .int 9), (0, .ref h0), (1, .int v)]) C.x C.b dX2_init_37 rfl hl (by decide) rfl (fun ls hl => ?_)
      refine lv_aload_n C.x C.b dX2_init_38 rfl (lv_at hl 1 rfl) ?_
      refine lv_iload_n C.x C.b dX2_init_39 rfl (lv_at hl 0 rfl) ?_
      refine va_putF (D := D) (ci := 1) (v := .int 9) (ty := .int) (C := RX2) (T := TX2) (N := 3) C.x C.b C.t in_X2 tyX2 tyX2_ok nmX2 C.o C.2 hP hD hS 0 rfl rfl 0 (by decide) (C.t _ q172) (fun _ h9 => h9) rfl hin rfl (by decide +kernel) rfl rfl (Nat.le_of_ble_eq_true rfl) dX2_init_40 (fun H locs hP hD hS => ?_)
      have en : 9 = nI (p_nn v) := by unfold p_nn; rw [if_pos c1, if_neg c2]; rfl
      rw [en] at hP hD
      exact W.vret C.x C.b hr (fun t ht hW => ⟨⟨g_ad [0, a0, a1], rfl, trivial, by rw [ht]; exact hP, va_K.moved hW.alike C.2, hD⟩, hS.F ht⟩) hS.2.2 dX2_init_43
  · refine lv_iconst (v := 2) C.x C.b dX2_init_27 (by decide) ?_
    refine lv_istore_n (lv' := [(2, .int 2), (0, .ref h0), (1, .int v)]) C.x C.b dX2_init_28 rfl hl (by decide) rfl (fun ls hl => ?_)
    refine lv_iload_n C.x C.b dX2_init_29 rfl (lv_at hl 0 rfl) ?_
    refine lv_bipush (v := 9) C.x C.b dX2_init_30 (by decide) ?_
    refine lv_icmp_le (tgt := 38) C.x C.b dX2_init_32 (by decide) (fun _ => ?_) (fun hq => absurd (by decide) hq)
    refine lv_aload_n C.x C.b dX2_init_38 rfl (lv_at hl 1 rfl) ?_
    refine lv_iload_n C.x C.b dX2_init_39 rfl (lv_at hl 0 rfl) ?_
    refine va_putF (D := D) (ci := 1) (v := .int 2) (ty := .int) (C := RX2) (T := TX2) (N := 3) C.x C.b C.t in_X2 tyX2 tyX2_ok nmX2 C.o C.2 hP hD hS 0 rfl rfl 0 (by decide) (C.t _ q172) (fun _ h9 => h9) rfl hin rfl (by decide +kernel) rfl rfl (Nat.le_of_ble_eq_true rfl) dX2_init_40 (fun H locs hP hD hS => ?_)
    have en : 2 = nI (p_nn v) := by unfold p_nn; rw [if_neg c1]; rfl
    rw [en] at hP hD
    exact W.vret C.x C.b hr (fun t ht hW => ⟨⟨g_ad [0, a0, a1], rfl, trivial, by rw [ht]; exact hP, va_K.moved hW.alike C.2, hD⟩, hS.F ht⟩) hS.2.2 dX2_init_43
end
section
/-! rows for the law's own walk: both objects side by side -/
set_option maxRecDepth 100000
def g_L (D : va_G) (dI dZ : ClassId) (A : Nat → Prop) (H0 : Heap) (h1 : Nat) (a1 : Nat → Nat) (h2 : Nat) (a2 : Nat → Nat) (n : Nat) (σ τ : g_St) (H : Heap) (locs : List Loc) : Prop := va_P D vwCl (g1_w dI dZ h1 a1 n σ ++ g2_w dI dZ h2 a2 n τ) H ∧ va_D A (g1_w dI dZ h1 a1 n σ ++ g2_w dI dZ h2 a2 n τ) ∧ va_S A H0 H locs
section W7
variable {p : Program} {l : Launch} {e : Env} {R : Room} {s : State} {m : MethodId} {args : Array Value} {below : List Frame} {meth : Method} {c : Code} {H : Heap} {locs : List Loc} {cells slots : Nat} {Q : State → Prop}
variable {cc : ByteArray} {pc nL : Nat} {ls : Array Slot} {rest : List Value} {D : va_G} {dI dZ : ClassId} {A : Nat → Prop} {H0 : Heap} {h1 h2 n : Nat} {a1 a2 : Nat → Nat} {σ τ : g_St}
theorem g_lc1 {y : MethodName} {cy : ByteArray} {nY index k fr lo : Nat} {ty : FieldType} {As st : List Value} {post : Int32 → g_St → Prop} (C : g_C RX0 p s m args c cc nL D dI dZ) (G : g_L D dI dZ A H0 h1 a1 h2 a2 n σ τ H locs) (hA : ∀ q, H0.size ≤ q → A q) (hM : g_Mi l D dI dZ (g1_w dI dZ h1 a1 n) h1 y cy nY ty fr lo As σ post)
    (cw : CallW R s args RX0 RX1 index y cy nY (some ty) (ws_ y cy nY (some ty)) (g_rm fr lo) 0 0 k) (hk : As.length = k) (hls : ls.size = nL) (hroom : (rest.map fun v => v.category).sum ≤ 8) (hst : st = As.reverse ++ .ref h1 :: rest) (hc : cells ≤ R.cells) (hs : slots ≤ R.slots) (hdg : decode cc pc = .ok (.invokevirtual index, 3))
    (kk : ∀ (r : Int32) (σ1 : g_St) (H1 : Heap) (locs1 : List Loc), post r σ1 → g_L D dI dZ A H0 h1 a1 h2 a2 n σ1 τ H1 locs1 → W p l e R s m args below meth c H1 locs1 cells slots Q (F0 m (pc + 3) ls (.int r :: rest))) : W p l e R s m args below meth c H locs cells slots Q (F0 m pc ls st) := by
  subst hst
  obtain ⟨hP, hD, hS⟩ := G
  have hPc : va_P D vwCl (g1_w dI dZ h1 a1 n σ) H := hP.sub [0, 1, 2, 3, 4, 5, 6, 7, 8, 9, 10] rfl
  have hDc : va_D A (g1_w dI dZ h1 a1 n σ) := hD.sub [0, 1, 2, 3, 4, 5, 6, 7, 8, 9, 10] (by decide) rfl
  have hFc : ∀ q, va_A (g1_w dI dZ h1 a1 n σ) H.size q → A q := va_free hD hS hA [0, 1, 2, 3, 4, 5, 6, 7, 8, 9, 10] rfl
  refine va_calli (va_runV (As := As) (rest := rest) C.1 (hM H.size) cw ⟨fun a U g mk q => by obtain ⟨q0, q1, qP, qK, qD⟩ := q; exact ⟨q0, q1, qP, va_K.moved (u := U) (U := U.calling g mk a) (Vm.Alike.refl U.vm) qK, qD⟩, va_recv C.2 hPc (ci := 0) (q0 := 0) rfl rfl, fun U hU hW => ⟨rfl, by rw [hU], by rw [hU]; exact hPc, va_K.moved hW.alike C.2, hDc.weaken (fun _ _ _ _ => trivial)⟩⟩ rfl hk hls rfl (lv_room hroom) hdg ⟨hc, hs⟩) hS (fun q _ h => hFc q h) hFc (fun r u t H1 locs1 ht hvm hw hB hz1 hk1 hS => ?_)
  obtain ⟨hP1, hK1, hD1⟩ := hB
  rw [ht] at hP1
  obtain ⟨hP, hD⟩ := va_join (wr := g2_w dI dZ h2 a2 n τ) (w1 := g1_w dI dZ h1 a1 n u) hP hD [0, 1, 2, 3, 4, 5, 6, 7, 8, 9, 10] [11, 12, 13] rfl rfl (by decide) (by decide) hk1 hFc hP1 hD1
  exact kk r u H1 locs1 hw ⟨hP.sub [3, 4, 5, 6, 7, 8, 9, 10, 11, 12, 13, 0, 1, 2] rfl, hD.sub [3, 4, 5, 6, 7, 8, 9, 10, 11, 12, 13, 0, 1, 2] (by decide) rfl, hS⟩
theorem g_lc2 {y : MethodName} {cy : ByteArray} {nY index k fr lo : Nat} {ty : FieldType} {As st : List Value} {post : Int32 → g_St → Prop} (C : g_C RX0 p s m args c cc nL D dI dZ) (G : g_L D dI dZ A H0 h1 a1 h2 a2 n σ τ H locs) (hA : ∀ q, H0.size ≤ q → A q) (hM : g_Mi l D dI dZ (g2_w dI dZ h2 a2 n) h2 y cy nY ty fr lo As τ post)
    (cw : CallW R s args RX0 RX2 index y cy nY (some ty) (ws_ y cy nY (some ty)) (g_rm fr lo) 0 0 k) (hk : As.length = k) (hls : ls.size = nL) (hroom : (rest.map fun v => v.category).sum ≤ 8) (hst : st = As.reverse ++ .ref h2 :: rest) (hc : cells ≤ R.cells) (hs : slots ≤ R.slots) (hdg : decode cc pc = .ok (.invokevirtual index, 3))
    (kk : ∀ (r : Int32) (τ1 : g_St) (H1 : Heap) (locs1 : List Loc), post r τ1 → g_L D dI dZ A H0 h1 a1 h2 a2 n σ τ1 H1 locs1 → W p l e R s m args below meth c H1 locs1 cells slots Q (F0 m (pc + 3) ls (.int r :: rest))) : W p l e R s m args below meth c H locs cells slots Q (F0 m pc ls st) := by
  subst hst
  obtain ⟨hP, hD, hS⟩ := G
  have hPc : va_P D vwCl (g2_w dI dZ h2 a2 n τ) H := hP.sub [11, 12, 13] rfl
  have hDc : va_D A (g2_w dI dZ h2 a2 n τ) := hD.sub [11, 12, 13] (by decide) rfl
  have hFc : ∀ q, va_A (g2_w dI dZ h2 a2 n τ) H.size q → A q := va_free hD hS hA [11, 12, 13] rfl
  refine va_calli (va_runV (As := As) (rest := rest) C.1 (hM H.size) cw ⟨fun a U g mk q => by obtain ⟨q0, q1, qP, qK, qD⟩ := q; exact ⟨q0, q1, qP, va_K.moved (u := U) (U := U.calling g mk a) (Vm.Alike.refl U.vm) qK, qD⟩, va_recv C.2 hPc (ci := 1) (q0 := 0) rfl rfl, fun U hU hW => ⟨rfl, by rw [hU], by rw [hU]; exact hPc, va_K.moved hW.alike C.2, hDc.weaken (fun _ _ _ _ => trivial)⟩⟩ rfl hk hls rfl (lv_room hroom) hdg ⟨hc, hs⟩) hS (fun q _ h => hFc q h) hFc (fun r u t H1 locs1 ht hvm hw hB hz1 hk1 hS => ?_)
  obtain ⟨hP1, hK1, hD1⟩ := hB
  rw [ht] at hP1
  obtain ⟨hP, hD⟩ := va_join (wr := g1_w dI dZ h1 a1 n σ) (w1 := g2_w dI dZ h2 a2 n u) hP hD [11, 12, 13] [0, 1, 2, 3, 4, 5, 6, 7, 8, 9, 10] rfl rfl (by decide) (by decide) hk1 hFc hP1 hD1
  exact kk r u H1 locs1 hw ⟨hP, hD, hS⟩
/-- an int of the script -/
theorem g_scr {b L : Nat} {xs : Nat → Int32} (C : g_C RX0 p s m args c cc nL D dI dZ) (G : g_L D dI dZ A H0 h1 a1 h2 a2 n σ τ H locs) (hX : va_X b L xs s H0) (hbl : b < H0.size) (hbA : ¬ A b) {i : Int32} (j : Nat) (hj : j < L) (hL : L ≤ 257) (ei : i = nI j) (hdg : decode cc pc = .ok (.iaload, 1))
    (kk : W p l e R s m args below meth c H locs cells slots Q (F0 m (pc + 1) ls (.int (xs j) :: rest))) : W p l e R s m args below meth c H locs cells slots Q (F0 m pc ls (.int i :: .ref b :: rest)) := by
  subst ei
  refine va_sld C.x C.b hX hbl hbA G.2.2 (vp_in_nI hj (by omega)) hdg ?_
  rw [nI_clamp (by omega)]
  exact kk
end W7
/-- cell(script, 0) -/
def p_cell (L : Nat) (xs : Nat → Int32) : Int32 := if nI L ≤ nI 0 then 0 else xs 0
set_option maxHeartbeats 2000000 in
theorem m0_cell (l : Launch) (b L : Nat) (xs : Nat → Int32) (hL : L ≤ 257) (sz : Nat) (hb : b < sz) : Met l yX0_cell (ws_ yX0_cell cX0_cell 2 (some .int)) (g_rm 0 0) (va_Pc [.ref b, .int (nI 0)] (fun U => U.heap.size = sz ∧ va_X b L xs U U.heap)) (va_Qi (fun (r : Int32) (_ : Unit) => r = p_cell L xs) (fun _ _ => True) (fun q => sz ≤ q)) 0 0 (fun q => sz ≤ q) := by
  refine Met.ofW (cc := cX0_cell) (maxL := 2) (ret := some .int) (by decide +kernel) rfl ?_
  intro p e s m args below meth c s₁ B hml hv
  obtain ⟨rfl, hsz, hX⟩ := hv
  subst hsz
  have hx := B.exec
  have hbb := B.bytes
  have hr := B.returns
  have hlocks := B.notSynchronized
  have hS : va_S (fun q => s.heap.size ≤ q) s.heap s.heap [] := va_S.rf
  have hbA : ¬ (fun q : Nat => s.heap.size ≤ q) b := Nat.not_le.mpr hb
  have hl := lv_entry ([.ref b, .int (nI 0)]) (n := 2) (Nat.le_of_ble_eq_true rfl)
  rw [lg_entry_eq]
  generalize (lg_sl ([.ref b, .int (nI 0)]) ++ List.replicate (2 - (lg_sl ([.ref b, .int (nI 0)])).length) Slot.unset).toArray = ls at hl ⊢
  have hl : lv_has ls 2 [(0, .ref b), (1, .int (nI 0))] := hl
  refine lv_iload_n hx hbb dX0_cell_0 rfl (lv_at hl 1 rfl) ?_
  refine lv_aload_n hx hbb dX0_cell_1 rfl (lv_at hl 0 rfl) ?_
  refine va_slen hx hbb hX hb hbA hS dX0_cell_2 ?_
  refine lv_icmp_ge (tgt := 12) hx hbb dX0_cell_3 (by decide) (fun c3 => ?_) (fun c3 => ?_)
  · refine lv_iconst (v := 0) hx hbb dX0_cell_12 (by decide) ?_
    exact W.iret hx hbb hr (fun t ht hW => ⟨⟨_, (), rfl, by show (0 : Int32) = p_cell L xs; unfold p_cell; rw [if_pos (show nI L ≤ nI 0 from c3)], trivial⟩, hS.F ht⟩) hS.2.2 dX0_cell_13
  · refine lv_aload_n hx hbb dX0_cell_6 rfl (lv_at hl 0 rfl) ?_
    refine lv_iload_n hx hbb dX0_cell_7 rfl (lv_at hl 1 rfl) ?_
    have h0 : 0 < L := by
      rcases Nat.eq_zero_or_pos L with h | h
      · subst h; exact absurd (Int32.le_refl _) c3
      · exact h
    refine va_sld hx hbb hX hb hbA hS (vp_in_nI h0 (by omega)) dX0_cell_8 ?_
    refine lv_goto (tgt := 13) hx hbb dX0_cell_9 (by decide) ?_
    exact W.iret hx hbb hr (fun t ht hW => ⟨⟨_, (), rfl, by show xs (nI 0).toNatClampNeg = p_cell L xs; unfold p_cell; rw [if_neg (show ¬ nI L ≤ nI 0 from c3)]; rfl, trivial⟩, hS.F ht⟩) hS.2.2 dX0_cell_13
section W8
variable {p : Program} {l : Launch} {e : Env} {R : Room} {s : State} {m : MethodId} {args : Array Value} {below : List Frame} {meth : Method} {c : Code} {H : Heap} {locs : List Loc} {cells slots : Nat} {Q : State → Prop}
variable {cc : ByteArray} {pc nL : Nat} {ls : Array Slot} {rest : List Value} {D : va_G} {dI dZ : ClassId} {A : Nat → Prop} {H0 : Heap} {ws : va_W}
/-- the law calls cell: the world stays -/
theorem g_cell {b L : Nat} {xs : Nat → Int32} (C : g_C RX0 p s m args c cc nL D dI dZ) (hX : va_X b L xs s H0) (hbl : b < H0.size) (hbA : ¬ A b) (hA : ∀ q, H0.size ≤ q → A q) (hL : L ≤ 257) (hP : va_P D vwCl ws H) (hD : va_D A ws) (hS : va_S A H0 H locs) (hls : ls.size = nL) (hroom : (rest.map fun v => v.category).sum ≤ 8) (hc : cells ≤ R.cells) (hs : slots ≤ R.slots) (hf : 0 + 1 ≤ R.frames) (hlo : 8 + (2 + 11) + 0 ≤ R.locals) (hdg : decode cc pc = .ok (.invokestatic 9, 3))
    (kk : ∀ (H1 : Heap) (locs1 : List Loc), va_P D vwCl ws H1 → va_S A H0 H1 locs1 → W p l e R s m args below meth c H1 locs1 cells slots Q (F0 m (pc + 3) ls (.int (p_cell L xs) :: rest))) : W p l e R s m args below meth c H locs cells slots Q (F0 m pc ls (.int (nI 0) :: .ref b :: rest)) := by
  have hX1 : va_X b L xs s H := hX.kept (hS.2.1 b hbl hbA)
  have hAH : ∀ q, H.size ≤ q → A q := fun q h => hA q (Nat.le_trans hS.1 h)
  refine va_calli (va_runS (As := [.ref b, .int (nI 0)]) (rest := rest) C.1 (m0_cell l b L xs hL H.size (Nat.lt_of_lt_of_le hbl hS.1)) (va_cwS 2 C.t (lw_S q163 q164 q17 q165) rfl rfl rfl (by decide +kernel) ⟨hf, hlo⟩) ⟨fun a U g mk q => by obtain ⟨q0, q1, qX⟩ := q; exact ⟨q0, q1, qX.moved (u := U) (U := U.calling g mk a) (Vm.Alike.refl U.vm)⟩, fun U hU hW => ⟨rfl, by rw [hU], by rw [hU]; exact hX1.moved hW.alike⟩⟩ rfl rfl hls rfl (lv_room hroom) hdg ⟨hc, hs⟩) hS (fun q _ h => hAH q h) hAH (fun r u t H1 locs1 ht hvm hw hB hz1 hk1 hS => ?_)
  subst hw
  exact kk H1 locs1 (hP.kept (fun k q hq => hk1 q.1 (hP k q hq).lt (Nat.not_le.mpr (hP k q hq).lt))) hS
end W8
end
section
/-! the graph itself (fields 1, 2) is left alone by every question -/
set_option maxRecDepth 100000
theorem p_ph_k {n cnt k : Nat} (h7 : ¬ k = 7) (h8 : ¬ k = 8) (h9 : ¬ k = 9) (h10 : ¬ k = 10) (σ : g_St) : p_ph n cnt σ k = σ k := by
  have e : ∀ i s, p_phi n i s k = s k := by
    intro i s
    unfold p_phi
    rw [lp_keep (fun i s => p_phv_k h8 i s)]
    unfold p_phm
    rw [g_up_ne h7, g_up_ne h9, g_up_ne h10]
  unfold p_ph
  rw [lp_keep e, g_up_ne h9, lp_keep (f := p_phz) (fun i s => by unfold p_phz; rw [g_up_ne h8, g_up_ne h7])]
theorem p_mt_k {n k : Nat} (h4 : ¬ k = 4) (h6 : ¬ k = 6) (σ : g_St) : p_mt n σ k = σ k := by
  unfold p_mt p_mte
  rw [g_up_ne h6, g_up_ne h4, lp_keep (fun i s => p_mtf_k h4 i s)]
theorem p_lgr_k {n k : Nat} (h4 : ¬ k = 4) (h6 : ¬ k = 6) (h7 : ¬ k = 7) (h8 : ¬ k = 8) (h9 : ¬ k = 9) (h10 : ¬ k = 10) : ∀ (c : Nat) (q : Int32 × g_St), (p_lgr n c q).2 k = q.2 k := by
  intro c
  induction c with
  | zero => intro q; rfl
  | succ c ih =>
    intro q
    unfold p_lgr
    rw [ih]
    show p_mt n (p_ph n (c + 2) q.2) k = q.2 k
    rw [p_mt_k h4 h6, p_ph_k h7 h8 h9 h10]
theorem p_lg_k {n k : Nat} (h4 : ¬ k = 4) (h6 : ¬ k = 6) (h7 : ¬ k = 7) (h8 : ¬ k = 8) (h9 : ¬ k = 9) (h10 : ¬ k = 10) (σ : g_St) : (p_lg n σ).2 k = σ k := by
  unfold p_lg; split
  · exact p_lgr_k h4 h6 h7 h8 h9 h10 _ _
  · rfl
theorem p_ms_k {n : Nat} {set : Int32} {k : Nat} (h : ¬ k = 3) (σ : g_St) : p_ms n set σ k = σ k := by
  unfold p_ms
  exact lp_keep2 (f := p_msf n set) (fun i q => by
    unfold p_msf; split
    · rfl
    · split
      · exact p_ml_k h q.2
      · rfl) _ _ _
/-- a question keeps the graph -/
def g_kp (σ τ : g_St) : Prop := τ 1 = σ 1 ∧ τ 2 = σ 2
theorem p_prep_kp {n : Nat} {skip : Int32} {σ : g_St} : g_kp σ (p_prep n skip σ) := by
  unfold p_prep
  constructor
  · rw [p_sw_k (by decide) (by decide) (by decide), p_sl_k (by decide)]
  · rw [p_sw_k (by decide) (by decide) (by decide), p_sl_k (by decide)]
theorem p_lg_kp {n : Nat} {σ : g_St} : g_kp σ (p_lg n σ).2 := ⟨p_lg_k (by decide) (by decide) (by decide) (by decide) (by decide) (by decide) σ, p_lg_k (by decide) (by decide) (by decide) (by decide) (by decide) (by decide) σ⟩
theorem p_lb_kp {n u v : Nat} {σ : g_St} : g_kp σ (p_lb n u v σ).2 := ⟨p_lb_k (by decide) (by decide) (by decide) σ, p_lb_k (by decide) (by decide) (by decide) σ⟩
theorem g_kp.tr {a b c : g_St} (h1 : g_kp a b) (h2 : g_kp b c) : g_kp a c := ⟨h2.1.trans h1.1, h2.2.trans h1.2⟩
theorem g_kp.rf {a : g_St} : g_kp a a := ⟨rfl, rfl⟩
theorem p_least_kp {n : Nat} {σ : g_St} : g_kp σ (p_least n σ).2 := p_prep_kp.tr p_lg_kp
theorem p_lwp_kp {n : Nat} {near far : Int32} {σ : g_St} : g_kp σ (p_lwp n near far σ) := by
  unfold p_lwp
  constructor
  · rw [p_sw_k (by decide) (by decide) (by decide), p_ms_k (by decide), p_ms_k (by decide), p_sl_k (by decide)]
  · rw [p_sw_k (by decide) (by decide) (by decide), p_ms_k (by decide), p_ms_k (by decide), p_sl_k (by decide)]
theorem p_lw_kp {n : Nat} {near far : Int32} {σ : g_St} : g_kp σ (p_lw n near far σ).2 := by
  unfold p_lw; split
  · exact p_lwp_kp.tr p_lb_kp
  · exact p_lwp_kp.tr p_lg_kp
theorem p_smf_kp {n : Nat} {value : Int32} {v : Nat} {q : Int32 × Int32 × g_St} : g_kp q.2.2 (p_smf n value v q).2.2 := by
  unfold p_smf; split
  · exact p_lw_kp
  · exact p_lw_kp
theorem p_smr_kp {n : Nat} {value : Int32} : ∀ (c : Nat) (q : Int32 × Int32 × g_St), g_kp q.2.2 (p_smr n value c q).2.2 := by
  intro c
  induction c with
  | zero => intro q; exact g_kp.rf
  | succ c ih => intro q; exact p_smf_kp.tr (ih _)
theorem p_sm_kp {n : Nat} {σ : g_St} : g_kp σ (p_sm n σ).2 := by
  unfold p_sm; split
  · exact p_least_kp.tr (p_smr_kp _ (1, 0, (p_least n σ).2))
  · exact p_least_kp
theorem p_se_kp {n : Nat} {σ : g_St} : g_kp σ (p_se n σ).2 := by
  have e : ∀ k, (¬ k = 11) → (¬ k = 12) → (¬ k = 13) → ∀ value (q : Int32 × g_St), (lp (p_seu n value) n 0 q).2 k = q.2 k := by
    intro k h1 h2 h3 value q
    exact lp_keep2 (fun u q => lp_keep2 (f := p_sev n value u) (fun v q => p_lb_k h1 h2 h3 q.2) _ _ _) _ _ _
  unfold p_se; split
  · refine ((p_least_kp (n := n)).tr (p_prep_kp (n := n) (skip := -1))).tr ⟨?_, ?_⟩
    · exact e 1 (by decide) (by decide) (by decide) _ _
    · exact e 2 (by decide) (by decide) (by decide) _ _
  · exact p_least_kp
theorem p_bt_kp {n : Nat} {u v : Int32} {σ : g_St} : g_kp σ (p_bt n u v σ).2 := by
  unfold p_bt; split
  · exact p_prep_kp.tr p_lb_kp
  · exact g_kp.rf
theorem p_wo_kp {n : Nat} {v : Int32} {σ : g_St} : g_kp σ (p_wo n v σ).2 := by
  unfold p_wo; split
  · exact g_kp.rf
  · split
    · exact p_prep_kp.tr p_lg_kp
    · exact g_kp.rf
/-- a graph: weights from 0 to 50, the same both ways, none from a vertex to itself; glue the same both ways -/
def g_OK (a b : Nat → Int32) : Prop := (∀ u v, u < 9 → v < 9 → (∃ x : Nat, x ≤ 50 ∧ a (u * 9 + v) = nI x) ∧ a (u * 9 + v) = a (v * 9 + u) ∧ b (u * 9 + v) = b (v * 9 + u)) ∧ ∀ u, u < 9 → a (u * 9 + u) = 0
theorem g_upd2 {f : Nat → Int32} {a b u v : Nat} {x : Int32} (ha : a < 9) (hb : b < 9) (hu : u < 9) (hv : v < 9) : upd (upd f (a * 9 + b) x) (b * 9 + a) x (u * 9 + v) = if (u = a ∧ v = b) ∨ (u = b ∧ v = a) then x else f (u * 9 + v) := by
  unfold upd
  by_cases c1 : u * 9 + v = b * 9 + a
  · rw [if_pos c1, if_pos (Or.inr ⟨by omega, by omega⟩)]
  · rw [if_neg c1]
    by_cases c2 : u * 9 + v = a * 9 + b
    · rw [if_pos c2, if_pos (Or.inl ⟨by omega, by omega⟩)]
    · rw [if_neg c2, if_neg]
      rintro (⟨rfl, rfl⟩ | ⟨rfl, rfl⟩)
      · exact c2 rfl
      · exact c1 rfl
theorem g_OK_w {f g : Nat → Int32} {a b : Nat} {x : Nat} (h : g_OK f g) (ha : a < 9) (hb : b < 9) (hne : a ≠ b) (hx : x ≤ 50) : g_OK (upd (upd f (a * 9 + b) (nI x)) (b * 9 + a) (nI x)) g := by
  constructor
  · intro u v hu hv
    obtain ⟨⟨y, hy1, hy2⟩, h2, h3⟩ := h.1 u v hu hv
    rw [g_upd2 ha hb hu hv, g_upd2 ha hb hv hu]
    refine ⟨?_, ?_, h3⟩
    · by_cases c : (u = a ∧ v = b) ∨ (u = b ∧ v = a)
      · rw [if_pos c]; exact ⟨x, hx, rfl⟩
      · rw [if_neg c]; exact ⟨y, hy1, hy2⟩
    · by_cases c : (u = a ∧ v = b) ∨ (u = b ∧ v = a)
      · rw [if_pos c, if_pos]
        rcases c with ⟨c1, c2⟩ | ⟨c1, c2⟩
        · exact Or.inr ⟨c2, c1⟩
        · exact Or.inl ⟨c2, c1⟩
      · rw [if_neg c, if_neg]
        · exact h2
        · rintro (⟨c1, c2⟩ | ⟨c1, c2⟩)
          · exact c (Or.inr ⟨c2, c1⟩)
          · exact c (Or.inl ⟨c2, c1⟩)
  · intro u hu
    rw [g_upd2 ha hb hu hu, if_neg]
    · exact h.2 u hu
    · rintro (⟨rfl, rfl⟩ | ⟨rfl, rfl⟩) <;> exact hne rfl
theorem g_OK_g {f g : Nat → Int32} {a b : Nat} {x : Int32} (h : g_OK f g) (ha : a < 9) (hb : b < 9) : g_OK f (upd (upd g (a * 9 + b) x) (b * 9 + a) x) := by
  refine ⟨fun u v hu hv => ?_, h.2⟩
  obtain ⟨h1, h2, h3⟩ := h.1 u v hu hv
  refine ⟨h1, h2, ?_⟩
  rw [g_upd2 ha hb hu hv, g_upd2 ha hb hv hu]
  by_cases c : (u = a ∧ v = b) ∨ (u = b ∧ v = a)
  · rw [if_pos c, if_pos]
    rcases c with ⟨c1, c2⟩ | ⟨c1, c2⟩
    · exact Or.inr ⟨c2, c1⟩
    · exact Or.inl ⟨c2, c1⟩
  · rw [if_neg c, if_neg]
    · exact h3
    · rintro (⟨c1, c2⟩ | ⟨c1, c2⟩)
      · exact c (Or.inr ⟨c2, c1⟩)
      · exact c (Or.inl ⟨c2, c1⟩)
/-- what the law keeps between the two objects -/
def g_I (σ τ : g_St) : Prop := g_OK (σ 1) (σ 2) ∧ τ 1 = σ 1 ∧ τ 2 = σ 2
theorem g_I.kp {σ τ σ1 : g_St} (h : g_I σ τ) (hk : g_kp σ σ1) : g_I σ1 τ := by
  obtain ⟨h1, h2, h3⟩ := h
  obtain ⟨e1, e2⟩ := hk
  refine ⟨?_, ?_, ?_⟩
  · rw [e1, e2]; exact h1
  · rw [e1]; exact h2
  · rw [e2]; exact h3
theorem law_wt {n : Nat} {σ τ : g_St} {u v x : Int32} (hn : n ≤ 9) (h : g_I σ τ) : (p_wt n u v x σ).1 = (p_wt n u v x τ).1 ∧ g_I (p_wt n u v x σ).2 (p_wt n u v x τ).2 := by
  obtain ⟨h1, h2, h3⟩ := h
  unfold p_wt
  by_cases c : p_bp n u v = 0
  · rw [if_pos c, if_pos c]
    by_cases c2 : x < 0
    · rw [if_pos c2, if_pos c2]; exact ⟨rfl, h1, h2, h3⟩
    · rw [if_neg c2, if_neg c2]
      by_cases c3 : x ≤ 50
      · rw [if_pos c3, if_pos c3]
        obtain ⟨⟨a, ha, rfl⟩, ⟨b, hb, rfl⟩, hne⟩ := p_bp_0 hn c
        obtain ⟨y, hy, rfl⟩ := nI_of2 (x := x) (M := 50) (n := 50) (by decide) c2 c3
        rw [nx_nI (by omega), nx_nI (by omega)]
        refine ⟨by rw [h2], ?_, ?_, ?_⟩
        · exact g_OK_w h1 (by omega) (by omega) (fun e => hne (by rw [e])) hy
        · show upd (upd (τ 1) _ _) _ _ = upd (upd (σ 1) _ _) _ _
          rw [h2]
        · exact h3
      · rw [if_neg c3, if_neg c3]; exact ⟨rfl, h1, h2, h3⟩
  · rw [if_neg c, if_neg c]; exact ⟨rfl, h1, h2, h3⟩
theorem law_gl {n : Nat} {σ τ : g_St} {u v x : Int32} (hn : n ≤ 9) (h : g_I σ τ) : (p_gl n u v x σ).1 = (p_gl n u v x τ).1 ∧ g_I (p_gl n u v x σ).2 (p_gl n u v x τ).2 := by
  obtain ⟨h1, h2, h3⟩ := h
  unfold p_gl
  by_cases c : p_bp n u v = 0
  · rw [if_pos c, if_pos c]
    obtain ⟨⟨a, ha, rfl⟩, ⟨b, hb, rfl⟩, hne⟩ := p_bp_0 hn c
    rw [nx_nI (by omega), nx_nI (by omega)]
    refine ⟨by rw [h3], ?_, ?_, ?_⟩
    · exact g_OK_g h1 (by omega) (by omega)
    · exact h2
    · show upd (upd (τ 2) _ _) _ _ = upd (upd (σ 2) _ _) _ _
      rw [h3]
  · rw [if_neg c, if_neg c]; exact ⟨rfl, h1, h2, h3⟩
end
section
/-! sums of naturals, cuts -/
set_option maxRecDepth 100000
def sm : Nat → (Nat → Nat) → Nat
  | 0, _ => 0
  | n + 1, f => sm n f + f n
theorem sm_congr {f g : Nat → Nat} : ∀ n, (∀ i, i < n → f i = g i) → sm n f = sm n g := by
  intro n
  induction n with
  | zero => intro _; rfl
  | succ n ih => intro h; show sm n f + f n = sm n g + g n; rw [ih (fun i hi => h i (by omega)), h n (by omega)]
theorem sm_le {f g : Nat → Nat} : ∀ n, (∀ i, i < n → f i ≤ g i) → sm n f ≤ sm n g := by
  intro n
  induction n with
  | zero => intro _; exact Nat.le_refl _
  | succ n ih => intro h; show sm n f + f n ≤ sm n g + g n; exact Nat.add_le_add (ih (fun i hi => h i (by omega))) (h n (by omega))
theorem sm_add (n : Nat) (f g : Nat → Nat) : sm n (fun i => f i + g i) = sm n f + sm n g := by
  induction n with
  | zero => rfl
  | succ n ih => show sm n _ + (f n + g n) = (sm n f + f n) + (sm n g + g n); rw [ih]; omega
theorem sm_mul (n k : Nat) (f : Nat → Nat) : sm n (fun i => k * f i) = k * sm n f := by
  induction n with
  | zero => rfl
  | succ n ih => show sm n _ + k * f n = k * (sm n f + f n); rw [ih, Nat.mul_add]
theorem sm_zero {f : Nat → Nat} : ∀ n, (∀ i, i < n → f i = 0) → sm n f = 0 := by
  intro n
  induction n with
  | zero => intro _; rfl
  | succ n ih => intro h; show sm n f + f n = 0; rw [ih (fun i hi => h i (by omega)), h n (by omega)]
theorem sm_term {f : Nat → Nat} : ∀ n a, a < n → f a ≤ sm n f := by
  intro n
  induction n with
  | zero => intro a h; omega
  | succ n ih =>
    intro a h
    show f a ≤ sm n f + f n
    by_cases e : a = n
    · subst e; omega
    · have := ih a (by omega); omega
theorem sm_pos {f : Nat → Nat} : ∀ n, 0 < sm n f → ∃ a, a < n ∧ 0 < f a := by
  intro n
  induction n with
  | zero => intro h; exact absurd h (Nat.lt_irrefl 0)
  | succ n ih =>
    intro h
    have h : 0 < sm n f + f n := h
    by_cases e : 0 < f n
    · exact ⟨n, by omega, e⟩
    · obtain ⟨a, h1, h2⟩ := ih (by omega)
      exact ⟨a, by omega, h2⟩
theorem sm_one (n a : Nat) (g : Nat → Nat) (h : a < n) : sm n (fun i => if i = a then g i else 0) = g a := by
  induction n with
  | zero => omega
  | succ n ih =>
    show sm n _ + (if n = a then g n else 0) = g a
    by_cases e : n = a
    · subst e
      rw [if_pos rfl, sm_zero n (fun i hi => if_neg (by omega))]; omega
    · rw [if_neg e, ih (by omega)]; rfl
theorem sm_swap (n m : Nat) (f : Nat → Nat → Nat) : sm n (fun i => sm m (fun j => f i j)) = sm m (fun j => sm n (fun i => f i j)) := by
  induction n with
  | zero => exact (sm_zero m (fun _ _ => rfl)).symm
  | succ n ih =>
    show sm n _ + sm m (fun j => f n j) = _
    rw [ih, ← sm_add]
    rfl
theorem sm_const (n k : Nat) : sm n (fun _ => k) = n * k := by
  induction n with
  | zero => rw [Nat.zero_mul]; rfl
  | succ n ih => show sm n _ + k = _; rw [ih, Nat.succ_mul]
/-- a sum changed at one place -/
theorem sm_upd (n a : Nat) (f g : Nat → Nat) (h : a < n) (hg : ∀ i, i < n → i ≠ a → g i = f i) : sm n g + f a = sm n f + g a := by
  induction n with
  | zero => omega
  | succ n ih =>
    show sm n g + g n + f a = sm n f + f n + g a
    by_cases e : a = n
    · subst e
      rw [sm_congr a (fun i hi => hg i (by omega) (by omega))]; omega
    · have := ih (by omega) (fun i hi => hg i (by omega))
      rw [hg n (by omega) (by omega)]; omega
/-- double sums -/
def ds (n : Nat) (f : Nat → Nat → Nat) : Nat := sm n (fun i => sm n (fun j => f i j))
theorem ds_congr {f g : Nat → Nat → Nat} (n : Nat) (h : ∀ i j, i < n → j < n → f i j = g i j) : ds n f = ds n g := sm_congr n (fun i hi => sm_congr n (fun j hj => h i j hi hj))
theorem ds_le {f g : Nat → Nat → Nat} (n : Nat) (h : ∀ i j, i < n → j < n → f i j ≤ g i j) : ds n f ≤ ds n g := sm_le n (fun i hi => sm_le n (fun j hj => h i j hi hj))
theorem ds_add (n : Nat) (f g : Nat → Nat → Nat) : ds n (fun i j => f i j + g i j) = ds n f + ds n g := by
  unfold ds
  rw [← sm_add]
  exact sm_congr n (fun i _ => sm_add n _ _)
theorem ds_swap (n : Nat) (f : Nat → Nat → Nat) : ds n f = ds n (fun i j => f j i) := sm_swap n n f
theorem ds_zero {f : Nat → Nat → Nat} (n : Nat) (h : ∀ i j, i < n → j < n → f i j = 0) : ds n f = 0 := sm_zero n (fun i hi => sm_zero n (fun j hj => h i j hi hj))
theorem ds_term {f : Nat → Nat → Nat} (n a b : Nat) (ha : a < n) (hb : b < n) : f a b ≤ ds n f := Nat.le_trans (sm_term n b hb) (sm_term (f := fun i => sm n (fun j => f i j)) n a ha)
theorem ds_row (n a : Nat) (g : Nat → Nat) (h : a < n) : ds n (fun i j => if i = a then g j else 0) = sm n g := by
  unfold ds
  rw [sm_congr n (g := fun i => if i = a then sm n g else 0) (fun i _ => by
    by_cases e : i = a
    · rw [if_pos e]; exact sm_congr n (fun j _ => if_pos e)
    · rw [if_neg e]; exact sm_zero n (fun j _ => if_neg e))]
  exact sm_one n a (fun _ => sm n g) h
theorem ds_col (n a : Nat) (g : Nat → Nat) (h : a < n) : ds n (fun i j => if j = a then g i else 0) = sm n g := by
  rw [ds_swap]; exact ds_row n a g h
theorem ds_cell (n a b : Nat) (g : Nat → Nat → Nat) (ha : a < n) (hb : b < n) : ds n (fun i j => if i = a ∧ j = b then g i j else 0) = g a b := by
  rw [ds_congr n (g := fun i j => if i = a then (if j = b then g a j else 0) else 0) (fun i j _ _ => by
    by_cases e : i = a
    · subst e
      by_cases e2 : j = b
      · rw [if_pos ⟨rfl, e2⟩, if_pos rfl, if_pos e2]
      · rw [if_neg (fun h => e2 h.2), if_pos rfl, if_neg e2]
    · rw [if_neg (fun h => e h.1), if_neg e])]
  rw [ds_row n a _ ha]
  exact sm_one n b (fun j => g a j) hb
theorem ds_succ (n : Nat) (f : Nat → Nat → Nat) : ds (n + 1) f = ds n f + sm n (fun i => f i n) + sm n (fun j => f n j) + f n n := by
  unfold ds
  show sm n (fun i => sm n (fun j => f i j) + f i n) + (sm n (fun j => f n j) + f n n) = _
  rw [sm_add]; omega
/-- half a double sum: pairs j < i -/
def hs (n : Nat) (g : Nat → Nat → Nat) : Nat := sm n (fun i => sm i (fun j => g i j))
theorem hs_ds (n : Nat) (f g : Nat → Nat → Nat) (h0 : ∀ i, i < n → f i i = 0) (h : ∀ i j, i < n → j < i → f i j + f j i = g i j) : ds n f = hs n g := by
  induction n with
  | zero => rfl
  | succ n ih =>
    rw [ds_succ, ih (fun i hi => h0 i (by omega)) (fun i j hi hj => h i j (by omega) hj), h0 n (by omega)]
    show _ = hs n g + sm n (fun j => g n j)
    rw [← sm_congr n (fun j hj => h n j (by omega) hj), sm_add]
    have e : sm n (f n) = sm n (fun j => f n j) := rfl
    omega
theorem hs_le {f g : Nat → Nat → Nat} (n : Nat) (h : ∀ i j, i < n → j < i → f i j ≤ g i j) : hs n f ≤ hs n g := sm_le n (fun i hi => sm_le i (fun j hj => h i j hi hj))
theorem hs_congr {f g : Nat → Nat → Nat} (n : Nat) (h : ∀ i j, i < n → j < i → f i j = g i j) : hs n f = hs n g := sm_congr n (fun i hi => sm_congr i (fun j hj => h i j hi hj))
/-- a loop that adds -/
theorem lp_sum {f : Nat → Int32 → Int32} {g : Nat → Nat} (c : Nat) (x : Int32) (h : ∀ i x, i < c → f i x = x + nI (g i)) : lp f c 0 x = x + nI (sm c g) := by
  have e := lp_ind (f := f) (fun i y => y = x + nI (sm i g)) c 0 x (by show x = x + nI 0; rw [nI_0]; simp) (fun i y _ hi hy => by
    rw [h i y (by omega), hy]
    show _ = x + nI (sm i g + g i)
    rw [← nI_add, Int32.add_assoc])
  rw [Nat.zero_add] at e
  exact e
end
section
/-! value, change -/
set_option maxRecDepth 100000
/-- bit u of a mask -/
def g_bt (mask : Int32) (u : Nat) : Bool := decide ((mask >>> (nI u &&& 31)) &&& 1 = 1)
theorem g_b01 (x : Int32) : x &&& 1 = 0 ∨ x &&& 1 = 1 := by
  obtain ⟨j, hj, e⟩ := pk_andE x (m := 1) 1 (by decide)
  rcases (show j = 0 ∨ j = 1 by omega) with rfl | rfl
  · exact Or.inl e
  · exact Or.inr e
theorem g_bt_t {mask : Int32} {u : Nat} : g_bt mask u = true ↔ (mask >>> (nI u &&& 31)) &&& 1 = 1 := by
  unfold g_bt; exact decide_eq_true_iff
theorem g_bt_f {mask : Int32} {u : Nat} : g_bt mask u = false ↔ (mask >>> (nI u &&& 31)) &&& 1 = 0 := by
  unfold g_bt
  rw [decide_eq_false_iff_not]
  rcases g_b01 (mask >>> (nI u &&& 31)) with h | h
  · rw [h]; decide
  · rw [h]; decide
theorem g_sep {mask : Int32} {u v : Nat} : r_sep mask (nI u) (nI v) = 0 ↔ g_bt mask u = g_bt mask v := by
  unfold r_sep g_bt
  rcases g_b01 (mask >>> (nI u &&& 31)) with h | h <;> rcases g_b01 (mask >>> (nI v &&& 31)) with h' | h' <;> rw [h, h'] <;> decide
/-- the weights as numbers -/
def g_w (a : Nat → Int32) (u v : Nat) : Nat := nx (a (u * 9 + v))
theorem g_w_e {a b : Nat → Int32} (h : g_OK a b) {u v : Nat} (hu : u < 9) (hv : v < 9) : a (u * 9 + v) = nI (g_w a u v) := by
  obtain ⟨x, hx, e⟩ := (h.1 u v hu hv).1
  unfold g_w
  rw [e, nx_nI (by omega)]
theorem g_w_le {a b : Nat → Int32} (h : g_OK a b) {u v : Nat} (hu : u < 9) (hv : v < 9) : g_w a u v ≤ 50 := by
  obtain ⟨x, hx, e⟩ := (h.1 u v hu hv).1
  unfold g_w
  rw [e, nx_nI (by omega)]; exact hx
theorem g_w_s {a b : Nat → Int32} (h : g_OK a b) {u v : Nat} (hu : u < 9) (hv : v < 9) : g_w a u v = g_w a v u := by
  unfold g_w
  rw [(h.1 u v hu hv).2.1]
/-- the cut's value: the weights from S to what isn't in S, among the vertices V -/
def ct (n : Nat) (V : Nat → Bool) (w : Nat → Nat → Nat) (S : Nat → Bool) : Nat := ds n (fun u v => if V u = true ∧ V v = true ∧ S u = true ∧ S v = false then w u v else 0)
theorem ct_hs {n : Nat} {V : Nat → Bool} {w : Nat → Nat → Nat} (hw : ∀ u v, u < n → v < n → w u v = w v u) (S : Nat → Bool) : ct n V w S = hs n (fun u v => if V u = true ∧ V v = true ∧ ¬ S u = S v then w u v else 0) := by
  unfold ct
  refine hs_ds n _ _ (fun i _ => if_neg (fun h => by rw [h.2.2.1] at h; exact absurd h.2.2.2 (by decide))) (fun i j hi hj => ?_)
  rw [hw j i (by omega) hi]
  cases V i <;> cases V j <;> cases S i <;> cases S j <;> simp
theorem law_va {n : Nat} {σ τ : g_St} {mask : Int32} (h2 : 2 ≤ n) (h9 : n ≤ 9) (h : g_I σ τ) : p_va n mask σ = r_va n mask τ := by
  obtain ⟨h1, e1, -⟩ := h
  have a1 : p_va n mask σ = 0 + nI (ct n (fun _ => true) (g_w (σ 1)) (g_bt mask)) := by
    unfold p_va ct ds
    refine lp_sum n 0 (fun u x hu => ?_)
    unfold p_vau
    refine lp_sum n x (fun v x hv => ?_)
    unfold p_vav
    dsimp only
    by_cases c1 : g_bt mask u = true
    · rw [if_neg (not_not_intro (g_bt_t.mp c1))]
      by_cases c2 : g_bt mask v = true
      · rw [if_pos (by rw [g_bt_t.mp c2]; decide), if_neg (fun h => by rw [h.2.2.2] at c2; cases c2)]
        show x = x + nI 0
        rw [nI_0]; simp
      · have c3 : g_bt mask v = false := by cases hb : g_bt mask v; rfl; exact absurd hb c2
        rw [if_neg (not_not_intro (g_bt_f.mp c3)), if_pos ⟨rfl, rfl, c1, c3⟩, g_w_e h1 (by omega) (by omega)]
    · have c3 : g_bt mask u = false := by cases hb : g_bt mask u; rfl; exact absurd hb c1
      rw [if_pos (by rw [g_bt_f.mp c3]; decide), if_neg (fun h => c1 h.2.2.1)]
      show x = x + nI 0
      rw [nI_0]; simp
  have a2 : r_va n mask τ = 0 + nI (hs n (fun u v => if true = true ∧ true = true ∧ ¬ g_bt mask u = g_bt mask v then g_w (σ 1) u v else 0)) := by
    unfold r_va hs
    refine lp_sum n 0 (fun u x hu => ?_)
    unfold r_vau
    refine lp_sum u x (fun v x hv => ?_)
    unfold r_vav
    dsimp only
    by_cases c : g_bt mask u = g_bt mask v
    · rw [if_pos (g_sep.mpr c), if_neg (fun h => h.2.2 c)]
      show x = x + nI 0
      rw [nI_0]; simp
    · rw [if_neg (fun h => c (g_sep.mp h)), if_pos ⟨rfl, rfl, c⟩, e1, g_w_e h1 (by omega) (by omega)]
  rw [a1, a2, ct_hs (V := fun _ => true) (fun u v hu hv => g_w_s h1 (by omega) (by omega))]
theorem law_chv {old : Nat} {x : Int32} (h : old ≤ 50) : p_chv (nI old) x = r_chv (nI old) x ∧ ∃ y : Nat, y ≤ 50 ∧ p_chv (nI old) x = nI y := by
  have ho : (nI old).toInt = (old : Int) := nI_toInt (by omega)
  have hb1 := Int32.le_toInt x
  have hb2 := Int32.toInt_lt x
  have hs : ((nI old).toInt64 + x.toInt64).toInt = (old : Int) + x.toInt := by
    rw [Int64.toInt_add, Int32.toInt_toInt64, Int32.toInt_toInt64, ho]
    exact Int.bmod_eq_of_le (by omega) (by omega)
  have hsub : (50 - nI old).toInt = 50 - (old : Int) := pk_sub_toInt (a := 50) (b := old) (by omega) (by omega)
  have hneg : (-nI old).toInt = -(old : Int) := sb_negT (by omega)
  have key : (p_chv (nI old) x).toInt = (if (old : Int) + x.toInt < 0 then 0 else if 50 < (old : Int) + x.toInt then 50 else (old : Int) + x.toInt) := by
    have hadd : -(2 ^ 31) ≤ (old : Int) + x.toInt → (old : Int) + x.toInt < 2 ^ 31 → (nI old + x).toInt = (old : Int) + x.toInt := by
      intro h1 h2
      rw [Int32.toInt_add, ho]
      exact Int.bmod_eq_of_le (by omega) (by omega)
    unfold p_chv
    simp only [Int32.le_iff_toInt_le, hsub, hneg]
    have z0 : (0 : Int32).toInt = 0 := by decide
    have z50 : (50 : Int32).toInt = 50 := by decide
    rw [z0]
    by_cases c1 : x.toInt ≤ 0
    · rw [if_pos c1]
      by_cases c2 : 0 ≤ x.toInt
      · rw [if_pos c2, ho]; split <;> (try split) <;> omega
      · rw [if_neg c2]
        by_cases c3 : -(old : Int) ≤ x.toInt
        · rw [if_pos c3, hadd (by omega) (by omega)]; split <;> (try split) <;> omega
        · rw [if_neg c3, z0]; split <;> (try split) <;> omega
    · rw [if_neg c1]
      by_cases c2 : x.toInt ≤ 50 - (old : Int)
      · rw [if_pos c2, if_pos (by omega), hadd (by omega) (by omega)]; split <;> (try split) <;> omega
      · rw [if_neg c2, if_pos (by omega), z50]; split <;> (try split) <;> omega
  have key2 : (r_chv (nI old) x).toInt = (if (old : Int) + x.toInt < 0 then 0 else if 50 < (old : Int) + x.toInt then 50 else (old : Int) + x.toInt) := by
    unfold r_chv
    have z0 : (0 : Int64).toInt = 0 := by decide
    have z50 : (50 : Int64).toInt = 50 := by decide
    simp only [lg_cmp_ge, lg_cmp_le, Int64.le_iff_toInt_le, hs, z0, z50]
    by_cases c1 : 0 ≤ (old : Int) + x.toInt
    · rw [if_pos c1, if_neg (show ¬ (old : Int) + x.toInt < 0 by omega)]
      by_cases c2 : (old : Int) + x.toInt ≤ 50
      · rw [if_pos c2, if_neg (show ¬ 50 < (old : Int) + x.toInt by omega), Int64.toInt_toInt32, hs]
        exact Int.bmod_eq_of_le (by omega) (by omega)
      · rw [if_neg c2, if_pos (show 50 < (old : Int) + x.toInt by omega)]; decide
    · rw [if_neg c1, if_pos (show (old : Int) + x.toInt < 0 by omega)]; decide
  refine ⟨Int32.toInt_inj.mp (key.trans key2.symm), ?_⟩
  have hr : 0 ≤ (p_chv (nI old) x).toInt ∧ (p_chv (nI old) x).toInt ≤ 50 := by
    rw [key]; split <;> (try split) <;> omega
  exact nI_of2 (x := p_chv (nI old) x) (M := 50) (n := 50) (by decide) (fun h => by have := Int32.lt_iff_toInt_lt.mp h; rw [show (0 : Int32).toInt = 0 by decide] at this; omega) (Int32.le_iff_toInt_le.mpr (by rw [show (50 : Int32).toInt = 50 by decide]; exact hr.2))
end
section
/-! the model: the least over all sets -/
set_option maxRecDepth 100000
def MinOf (P : (Nat → Bool) → Prop) (c : (Nat → Bool) → Nat) (r : Int32) : Prop := (r = -3 ∧ ∀ S, ¬ P S) ∨ ∃ S, P S ∧ r = nI (c S) ∧ ∀ T, P T → c S ≤ c T
theorem MinOf.uniq {P : (Nat → Bool) → Prop} {c : (Nat → Bool) → Nat} {r1 r2 : Int32} (h1 : MinOf P c r1) (h2 : MinOf P c r2) : r1 = r2 := by
  rcases h1 with ⟨a1, b1⟩ | ⟨S, a1, b1, c1⟩ <;> rcases h2 with ⟨a2, b2⟩ | ⟨T, a2, b2, c2⟩
  · rw [a1, a2]
  · exact absurd a2 (b1 T)
  · exact absurd a1 (b2 S)
  · rw [b1, b2, Nat.le_antisymm (c1 T a2) (c2 S a1)]
theorem MinOf.congr {P P' : (Nat → Bool) → Prop} {c c' : (Nat → Bool) → Nat} {r : Int32} (h : MinOf P c r) (hP : ∀ S, P S ↔ P' S) (hc : ∀ S, P S → c S = c' S) : MinOf P' c' r := by
  rcases h with ⟨a1, b1⟩ | ⟨S, a1, b1, c1⟩
  · exact Or.inl ⟨a1, fun S h => b1 S ((hP S).mpr h)⟩
  · refine Or.inr ⟨S, (hP S).mp a1, by rw [← hc S a1]; exact b1, fun T hT => ?_⟩
    rw [← hc S a1, ← hc T ((hP T).mpr hT)]
    exact c1 T ((hP T).mpr hT)
def g_V (out : Int32) (u : Nat) : Bool := decide (¬ nI u = out)
theorem g_V_t {out : Int32} {u : Nat} : g_V out u = true ↔ ¬ nI u = out := by unfold g_V; exact decide_eq_true_iff
/-- no glued pair is separated -/
def GL (n : Nat) (V : Nat → Bool) (b : Nat → Int32) (S : Nat → Bool) : Prop := ∀ u v, u < n → v < n → V u = true → V v = true → ¬ b (u * 9 + v) = 0 → S u = S v
/-- both sides have a vertex -/
def NT (n : Nat) (V : Nat → Bool) (S : Nat → Bool) : Prop := (∃ u, u < n ∧ V u = true ∧ S u = true) ∧ ∃ u, u < n ∧ V u = true ∧ S u = false
theorem GL_congr {n : Nat} {V : Nat → Bool} {b : Nat → Int32} {S T : Nat → Bool} (h : ∀ j, j < n → S j = T j) (hS : GL n V b S) : GL n V b T := fun u v hu hv h1 h2 h3 => by rw [← h u hu, ← h v hv]; exact hS u v hu hv h1 h2 h3
theorem NT_congr {n : Nat} {V : Nat → Bool} {S T : Nat → Bool} (h : ∀ j, j < n → S j = T j) (hS : NT n V S) : NT n V T := by
  obtain ⟨⟨u, h1, h2, h3⟩, ⟨v, h4, h5, h6⟩⟩ := hS
  exact ⟨⟨u, h1, h2, by rw [← h u h1]; exact h3⟩, ⟨v, h4, h5, by rw [← h v h4]; exact h6⟩⟩
theorem ct_congr {n : Nat} {V : Nat → Bool} {w : Nat → Nat → Nat} {S T : Nat → Bool} (h : ∀ j, j < n → S j = T j) : ct n V w S = ct n V w T := ds_congr n (fun u v hu hv => by rw [h u hu, h v hv])
theorem ct_le {n : Nat} {V : Nat → Bool} {w : Nat → Nat → Nat} {S : Nat → Bool} (hn : n ≤ 9) (hw : ∀ u v, u < n → v < n → w u v ≤ 50) : ct n V w S ≤ 4050 := by
  have h1 : ct n V w S ≤ ds n (fun _ _ => 50) := ds_le n (fun u v hu hv => by
    split
    · exact hw u v hu hv
    · omega)
  have h2 : ds n (fun _ _ => 50) = n * (n * 50) := by
    unfold ds
    rw [sm_congr n (fun i _ => sm_const n 50), sm_const]
  have h3 : n * (n * 50) ≤ 9 * (9 * 50) := Nat.mul_le_mul hn (Nat.mul_le_mul hn (Nat.le_refl _))
  omega
theorem g_bit_nI {mask : Int32} {u : Nat} : (mask >>> (nI u &&& 31)) &&& 1 = nI (if g_bt mask u = true then 1 else 0) := by
  by_cases c : g_bt mask u = true
  · rw [if_pos c]; exact g_bt_t.mp c
  · rw [if_neg c]
    have : g_bt mask u = false := by cases hb : g_bt mask u; rfl; exact absurd hb c
    exact g_bt_f.mp this
def bad (V : Nat → Bool) (b : Nat → Int32) (S : Nat → Bool) (u v : Nat) : Prop := V u = true ∧ V v = true ∧ ¬ S u = S v ∧ ¬ b (u * 9 + v) = 0
def gwt (V : Nat → Bool) (w : Nat → Nat → Nat) (S : Nat → Bool) (u v : Nat) : Nat := if V u = true ∧ V v = true ∧ ¬ S u = S v then w u v else 0
theorem r_alv_spec {τ : g_St} {mask out : Int32} {u : Nat} (hu : u < 9) (hok : g_OK (τ 1) (τ 2)) (x0 : Int32) : ∀ (k i : Nat) (x : Int32), i + k = u → (∀ v, v < i → ¬ bad (g_V out) (τ 2) (g_bt mask) u v) → x = x0 + nI (sm i (gwt (g_V out) (g_w (τ 1)) (g_bt mask) u)) →
    ((∃ v, v < u ∧ bad (g_V out) (τ 2) (g_bt mask) u v) ∧ r_alv τ mask out u k i x = none) ∨ ((∀ v, v < u → ¬ bad (g_V out) (τ 2) (g_bt mask) u v) ∧ r_alv τ mask out u k i x = some (x0 + nI (sm u (gwt (g_V out) (g_w (τ 1)) (g_bt mask) u)))) := by
  intro k
  induction k with
  | zero =>
    intro i x hi hb hx
    have : i = u := by omega
    subst this
    exact Or.inr ⟨hb, by rw [r_alv, hx]⟩
  | succ k ih =>
    intro i x hi hb hx
    have keep : r_alv τ mask out u (k + 1) i x = r_alv τ mask out u k (i + 1) x → ¬ bad (g_V out) (τ 2) (g_bt mask) u i → gwt (g_V out) (g_w (τ 1)) (g_bt mask) u i = 0 → ((∃ v, v < u ∧ bad (g_V out) (τ 2) (g_bt mask) u v) ∧ r_alv τ mask out u (k + 1) i x = none) ∨ ((∀ v, v < u → ¬ bad (g_V out) (τ 2) (g_bt mask) u v) ∧ r_alv τ mask out u (k + 1) i x = some (x0 + nI (sm u (gwt (g_V out) (g_w (τ 1)) (g_bt mask) u)))) := fun e h1 h2 => by
      rw [e]
      refine ih (i + 1) x (by omega) (fun v hv => ?_) ?_
      · by_cases c : v = i
        · rw [c]; exact h1
        · exact hb v (by omega)
      · show x = x0 + nI (sm i (gwt (g_V out) (g_w (τ 1)) (g_bt mask) u) + gwt (g_V out) (g_w (τ 1)) (g_bt mask) u i)
        rw [h2]; exact hx
    by_cases c1 : nI u = out
    · exact keep (by rw [r_alv, if_pos c1]) (fun h => (g_V_t.mp h.1) c1) (if_neg (fun h => (g_V_t.mp h.1) c1))
    · by_cases c2 : nI i = out
      · exact keep (by rw [r_alv, if_neg c1, if_pos c2]) (fun h => (g_V_t.mp h.2.1) c2) (if_neg (fun h => (g_V_t.mp h.2.1) c2))
      · by_cases c3 : g_bt mask u = g_bt mask i
        · exact keep (by rw [r_alv, if_neg c1, if_neg c2, if_pos (g_sep.mpr c3)]) (fun h => h.2.2.1 c3) (if_neg (fun h => h.2.2 c3))
        · have c3' : ¬ r_sep mask (nI u) (nI i) = 0 := fun h => c3 (g_sep.mp h)
          by_cases c4 : τ 2 (u * 9 + i) = 0
          · rw [show r_alv τ mask out u (k + 1) i x = r_alv τ mask out u k (i + 1) (x + τ 1 (u * 9 + i)) by rw [r_alv, if_neg c1, if_neg c2, if_neg c3', if_pos c4]]
            refine ih (i + 1) _ (by omega) (fun v hv => ?_) ?_
            · by_cases c : v = i
              · rw [c]; exact fun h => h.2.2.2 c4
              · exact hb v (by omega)
            · show _ = x0 + nI (sm i (gwt (g_V out) (g_w (τ 1)) (g_bt mask) u) + gwt (g_V out) (g_w (τ 1)) (g_bt mask) u i)
              rw [show gwt (g_V out) (g_w (τ 1)) (g_bt mask) u i = g_w (τ 1) u i from if_pos ⟨g_V_t.mpr c1, g_V_t.mpr c2, c3⟩, g_w_e hok hu (by omega), hx, ← nI_add, Int32.add_assoc]
          · refine Or.inl ⟨⟨i, by omega, g_V_t.mpr c1, g_V_t.mpr c2, c3, c4⟩, ?_⟩
            rw [r_alv, if_neg c1, if_neg c2, if_neg c3', if_neg c4]
def cin (V S : Nat → Bool) (i : Nat) : Nat := sm i (fun u => if V u = true ∧ S u = true then 1 else 0)
def call (V : Nat → Bool) (i : Nat) : Nat := sm i (fun u => if V u = true then 1 else 0)
theorem r_alu_spec {n : Nat} {τ : g_St} {mask out : Int32} (hn : n ≤ 9) (hok : g_OK (τ 1) (τ 2)) : ∀ (k i : Nat) (x : Int32) (c : Int32 × Int32), i + k = n → (∀ u v, u < i → v < u → ¬ bad (g_V out) (τ 2) (g_bt mask) u v) → x = nI (hs i (gwt (g_V out) (g_w (τ 1)) (g_bt mask))) → c = (nI (cin (g_V out) (g_bt mask) i), nI (call (g_V out) i)) →
    ((∃ u v, u < n ∧ v < u ∧ bad (g_V out) (τ 2) (g_bt mask) u v) ∧ r_alu τ mask out k i x c = none) ∨ ((∀ u v, u < n → v < u → ¬ bad (g_V out) (τ 2) (g_bt mask) u v) ∧ r_alu τ mask out k i x c = some (nI (hs n (gwt (g_V out) (g_w (τ 1)) (g_bt mask))), nI (cin (g_V out) (g_bt mask) n), nI (call (g_V out) n))) := by
  intro k
  induction k with
  | zero =>
    intro i x c hi hb hx hc
    have : i = n := by omega
    subst this
    exact Or.inr ⟨hb, by rw [r_alu, hx, hc]⟩
  | succ k ih =>
    intro i x c hi hb hx hc
    rcases r_alv_spec (τ := τ) (mask := mask) (out := out) (u := i) (by omega) hok x i 0 x (by omega) (fun v h => by omega) (by show x = x + nI 0; rw [nI_0]; simp) with ⟨⟨v, h1, h2⟩, h3⟩ | ⟨h1, h2⟩
    · exact Or.inl ⟨⟨i, v, by omega, h1, h2⟩, by rw [r_alu, h3]⟩
    · rw [r_alu, h2]
      refine ih (i + 1) _ _ (by omega) (fun u v hu hv => ?_) ?_ ?_
      · by_cases e : u = i
        · subst e; exact h1 v hv
        · exact hb u v (by omega) hv
      · show x + _ = nI (hs i _ + sm i (fun j => gwt (g_V out) (g_w (τ 1)) (g_bt mask) i j))
        rw [hx, nI_add]
      · unfold r_alc
        by_cases c1 : nI i = out
        · have hv : ¬ g_V out i = true := fun h => (g_V_t.mp h) c1
          rw [if_pos c1, hc]
          show _ = (nI (cin (g_V out) (g_bt mask) i + _), nI (call (g_V out) i + _))
          dsimp only
          rw [if_neg (fun h => hv h.1), if_neg hv]
          rfl
        · have hv : g_V out i = true := g_V_t.mpr c1
          rw [if_neg c1, hc]
          show (_, _) = (nI (cin (g_V out) (g_bt mask) i + _), nI (call (g_V out) i + _))
          dsimp only
          rw [if_pos hv, g_bit_nI, nI_add, show nI (call (g_V out) i) + 1 = nI (call (g_V out) i + 1) from nI_1 _]
          by_cases c2 : g_bt mask i = true
          · rw [if_pos c2, if_pos ⟨hv, c2⟩]
          · rw [if_neg c2, if_neg (fun h => c2 h.2)]
theorem sm_ind_le {p : Nat → Prop} [DecidablePred p] (n : Nat) : sm n (fun u => if p u then 1 else 0) ≤ n := by
  have h := sm_le (f := fun u => if p u then 1 else 0) (g := fun _ => 1) n (fun i _ => by
    show (if p i then 1 else 0) ≤ 1
    split <;> omega)
  rw [sm_const] at h; omega
theorem cin_zero {n : Nat} {V S : Nat → Bool} : cin V S n = 0 ↔ ¬ ∃ u, u < n ∧ V u = true ∧ S u = true := by
  constructor
  · rintro h ⟨u, h1, h2, h3⟩
    have := sm_term (f := fun u => if V u = true ∧ S u = true then 1 else 0) n u h1
    rw [if_pos ⟨h2, h3⟩] at this
    unfold cin at h; omega
  · intro h
    exact sm_zero n (fun u hu => if_neg (fun h2 => h ⟨u, hu, h2.1, h2.2⟩))
theorem cin_all {n : Nat} {V S : Nat → Bool} : cin V S n = call V n ↔ ¬ ∃ u, u < n ∧ V u = true ∧ S u = false := by
  have e : call V n = cin V S n + cin V (fun u => !S u) n := by
    unfold call cin
    rw [← sm_add]
    exact sm_congr n (fun u _ => by rcases Bool.eq_false_or_eq_true (V u) with hV | hV <;> rcases Bool.eq_false_or_eq_true (S u) with hS | hS <;> simp [hV, hS])
  rw [e]
  have h0 := cin_zero (n := n) (V := V) (S := fun u => !S u)
  constructor
  · intro h
    have h1 := h0.mp (by omega)
    rintro ⟨u, h2, h3, h4⟩
    exact h1 ⟨u, h2, h3, by show (!S u) = true; rw [h4]; rfl⟩
  · intro h
    have h1 := h0.mpr (by
      rintro ⟨u, h2, h3, h4⟩
      refine h ⟨u, h2, h3, ?_⟩
      have h4 : (!S u) = true := h4
      cases hs : S u
      · rfl
      · rw [hs] at h4; cases h4)
    omega
theorem nI_m3 {k : Nat} (h : k < 2 ^ 31) : ¬ nI k = -3 := fun e => by
  have := nI_pos' h
  rw [e] at this
  exact absurd this (by decide)
theorem r_al_spec {n : Nat} {τ : g_St} {mask out : Int32} (hn : n ≤ 9) (hok : g_OK (τ 1) (τ 2)) :
    (GL n (g_V out) (τ 2) (g_bt mask) ∧ NT n (g_V out) (g_bt mask) ∧ r_al n mask out τ = nI (ct n (g_V out) (g_w (τ 1)) (g_bt mask))) ∨ (¬ (GL n (g_V out) (τ 2) (g_bt mask) ∧ NT n (g_V out) (g_bt mask)) ∧ r_al n mask out τ = -3) := by
  have hcin : cin (g_V out) (g_bt mask) n ≤ n := sm_ind_le n
  have hcall : call (g_V out) n ≤ n := sm_ind_le n
  rcases r_alu_spec (τ := τ) (mask := mask) (out := out) hn hok n 0 0 (0, 0) (by omega) (fun u v h => by omega) rfl rfl with ⟨⟨u, v, h1, h2, h3, h4, h5, h6⟩, h7⟩ | ⟨h1, h2⟩
  · refine Or.inr ⟨fun h => h5 (h.1 u v h1 (by omega) h3 h4 h6), ?_⟩
    unfold r_al; rw [h7]
  · have hgl : GL n (g_V out) (τ 2) (g_bt mask) := by
      intro u v hu hv h3 h4 h5
      rcases Nat.lt_trichotomy u v with h | h | h
      · refine Decidable.byContradiction fun hne => h1 v u hv h ⟨h4, h3, fun e => hne e.symm, fun e => h5 ?_⟩
        rw [(hok.1 u v (by omega) (by omega)).2.2]; exact e
      · rw [h]
      · exact Decidable.byContradiction fun hne => h1 u v hu h ⟨h3, h4, hne, h5⟩
    unfold r_al; rw [h2]
    show _ ∨ _ ∧ (if nI (cin (g_V out) (g_bt mask) n) = 0 then (-3 : Int32) else if ¬ nI (cin (g_V out) (g_bt mask) n) = nI (call (g_V out) n) then nI (hs n (gwt (g_V out) (g_w (τ 1)) (g_bt mask))) else -3) = -3
    by_cases c1 : cin (g_V out) (g_bt mask) n = 0
    · refine Or.inr ⟨fun h => cin_zero.mp c1 h.2.1, ?_⟩
      rw [if_pos (by rw [c1]; rfl)]
    · have c1' : ¬ nI (cin (g_V out) (g_bt mask) n) = 0 := nI_ne0 (by omega) (by omega)
      rw [if_neg c1']
      by_cases c2 : cin (g_V out) (g_bt mask) n = call (g_V out) n
      · refine Or.inr ⟨fun h => cin_all.mp c2 h.2.2, ?_⟩
        rw [if_neg (not_not_intro (by rw [c2]))]
      · have c2' : ¬ nI (cin (g_V out) (g_bt mask) n) = nI (call (g_V out) n) := fun e => c2 ((nI_eq (by omega) (by omega)).mp e)
        refine Or.inl ⟨hgl, ⟨Decidable.byContradiction fun h => c1 (cin_zero.mpr h), Decidable.byContradiction fun h => c2 (cin_all.mpr h)⟩, ?_⟩
        show (if nI (cin (g_V out) (g_bt mask) n) = 0 then (-3 : Int32) else if ¬ nI (cin (g_V out) (g_bt mask) n) = nI (call (g_V out) n) then nI (hs n (gwt (g_V out) (g_w (τ 1)) (g_bt mask))) else -3) = _
        rw [if_neg c1', if_pos c2', ct_hs (fun u v hu hv => g_w_s hok (by omega) (by omega))]
        rfl

/-- every set of the first n is a mask's -/
theorem mask_of (S : Nat → Bool) : ∀ n, n ≤ 9 → ∃ m, m < 2 ^ n ∧ ∀ j, j < n → m.testBit j = S j := by
  intro n
  induction n with
  | zero => intro _; exact ⟨0, by decide, fun j h => by omega⟩
  | succ n ih =>
    intro hn
    obtain ⟨m, h1, h2⟩ := ih (by omega)
    have hp : 2 ^ (n + 1) = 2 * 2 ^ n := by rw [Nat.pow_succ]; omega
    cases hS : S n
    · refine ⟨m, by omega, fun j hj => ?_⟩
      by_cases e : j = n
      · subst e; rw [hS]; exact Nat.testBit_lt_two_pow h1
      · exact h2 j (by omega)
    · refine ⟨2 ^ n + m, by omega, fun j hj => ?_⟩
      by_cases e : j = n
      · subst e; rw [Nat.testBit_two_pow_add_eq, Nat.testBit_lt_two_pow h1, hS]; rfl
      · rw [Nat.testBit_two_pow_add_gt (by omega)]; exact h2 j (by omega)
theorem g_bt_nI {m j : Nat} (hm : m < 2 ^ 31) (hj : j < 16) : g_bt (nI m) j = m.testBit j := by
  unfold g_bt
  rw [g_shr hm hj, Nat.testBit_eq_decide_div_mod_eq]
  rcases Nat.mod_two_eq_zero_or_one (m / 2 ^ j) with h | h <;> rw [h] <;> decide
/-- leastOf: the least allowed cut (that separates u and v) -/
def LOP (n : Nat) (V : Nat → Bool) (b : Nat → Int32) (u v : Int32) (S : Nat → Bool) : Prop := GL n V b S ∧ NT n V S ∧ (u < 0 ∨ ¬ S (nx u) = S (nx v))
theorem LOP_congr {n : Nat} {V : Nat → Bool} {b : Nat → Int32} {u v : Int32} {S T : Nat → Bool} (huv : u < 0 ∨ (g_in n u ∧ g_in n v)) (hn : n ≤ 9) (h : ∀ j, j < n → S j = T j) (hS : LOP n V b u v S) : LOP n V b u v T := by
  refine ⟨GL_congr h hS.1, NT_congr h hS.2.1, ?_⟩
  rcases hS.2.2 with h1 | h1
  · exact Or.inl h1
  · rcases huv with h2 | ⟨h2, h3⟩
    · exact Or.inl h2
    · refine Or.inr ?_
      rw [← h _ (h2.lt (Nat.le_trans hn (by decide))), ← h _ (h3.lt (Nat.le_trans hn (by decide)))]; exact h1
theorem r_lo_spec {n : Nat} {τ : g_St} {out u v : Int32} (hn : n ≤ 9) (hok : g_OK (τ 1) (τ 2)) (huv : u < 0 ∨ (g_in n u ∧ g_in n v)) : MinOf (LOP n (g_V out) (τ 2) u v) (ct n (g_V out) (g_w (τ 1))) (r_lo n out u v τ) := by
  have h2 : 2 ^ n ≤ 2 ^ 9 := Nat.pow_le_pow_right (by decide) hn
  have hb : ∀ S, ct n (g_V out) (g_w (τ 1)) S ≤ 4050 := fun S => ct_le hn (fun u v hu hv => g_w_le hok (by omega) (by omega))
  have key := lp_ind (f := r_lof n out u v τ) (fun i best => (best = -3 ∧ ∀ m, m < i → ¬ LOP n (g_V out) (τ 2) u v (g_bt (nI m))) ∨ ∃ m, m < i ∧ LOP n (g_V out) (τ 2) u v (g_bt (nI m)) ∧ best = nI (ct n (g_V out) (g_w (τ 1)) (g_bt (nI m))) ∧ ∀ m', m' < i → LOP n (g_V out) (τ 2) u v (g_bt (nI m')) → ct n (g_V out) (g_w (τ 1)) (g_bt (nI m)) ≤ ct n (g_V out) (g_w (τ 1)) (g_bt (nI m'))) (2 ^ n) 0 (-3) (Or.inl ⟨rfl, fun m h => by omega⟩) (fun i best _ hi h => by
    have hsep : ¬ u < 0 → (r_sep (nI i) u v = 0 ↔ g_bt (nI i) (nx u) = g_bt (nI i) (nx v)) := by
      intro h0
      obtain ⟨⟨a, ha, rfl⟩, ⟨b, hb', rfl⟩⟩ := huv.resolve_left h0
      rw [nx_nI (by omega), nx_nI (by omega)]
      exact g_sep
    have skip : r_lof n out u v τ i best = best → ¬ LOP n (g_V out) (τ 2) u v (g_bt (nI i)) → ((r_lof n out u v τ i best = -3 ∧ ∀ m, m < i + 1 → ¬ LOP n (g_V out) (τ 2) u v (g_bt (nI m))) ∨ ∃ m, m < i + 1 ∧ LOP n (g_V out) (τ 2) u v (g_bt (nI m)) ∧ r_lof n out u v τ i best = nI (ct n (g_V out) (g_w (τ 1)) (g_bt (nI m))) ∧ ∀ m', m' < i + 1 → LOP n (g_V out) (τ 2) u v (g_bt (nI m')) → ct n (g_V out) (g_w (τ 1)) (g_bt (nI m)) ≤ ct n (g_V out) (g_w (τ 1)) (g_bt (nI m'))) := by
      intro e hno
      rw [e]
      rcases h with ⟨h1, h3⟩ | ⟨m, h1, h3, h4, h5⟩
      · refine Or.inl ⟨h1, fun m hm => ?_⟩
        by_cases e : m = i
        · rw [e]; exact hno
        · exact h3 m (by omega)
      · refine Or.inr ⟨m, by omega, h3, h4, fun m' hm' hl => ?_⟩
        by_cases e : m' = i
        · rw [e] at hl; exact absurd hl hno
        · exact h5 m' (by omega) hl
    have take : (u < 0 ∨ ¬ g_bt (nI i) (nx u) = g_bt (nI i) (nx v)) → r_lof n out u v τ i best = r_lo2 (r_al n (nI i) out τ) best → ((r_lof n out u v τ i best = -3 ∧ ∀ m, m < i + 1 → ¬ LOP n (g_V out) (τ 2) u v (g_bt (nI m))) ∨ ∃ m, m < i + 1 ∧ LOP n (g_V out) (τ 2) u v (g_bt (nI m)) ∧ r_lof n out u v τ i best = nI (ct n (g_V out) (g_w (τ 1)) (g_bt (nI m))) ∧ ∀ m', m' < i + 1 → LOP n (g_V out) (τ 2) u v (g_bt (nI m')) → ct n (g_V out) (g_w (τ 1)) (g_bt (nI m)) ≤ ct n (g_V out) (g_w (τ 1)) (g_bt (nI m'))) := by
      intro hu e
      rcases r_al_spec (τ := τ) (mask := nI i) (out := out) hn hok with ⟨a1, a2, a3⟩ | ⟨a1, a2⟩
      · have hl : LOP n (g_V out) (τ 2) u v (g_bt (nI i)) := ⟨a1, a2, hu⟩
        have hbi := hb (g_bt (nI i))
        have hx : ¬ nI (ct n (g_V out) (g_w (τ 1)) (g_bt (nI i))) = -3 := nI_m3 (by omega)
        rw [e, a3]
        unfold r_lo2
        rw [if_neg hx]
        rcases h with ⟨h1, h3⟩ | ⟨m, h1, h3, h4, h5⟩
        · rw [if_pos h1]
          refine Or.inr ⟨i, by omega, hl, rfl, fun m' hm' hl' => ?_⟩
          by_cases e : m' = i
          · rw [e]; exact Nat.le_refl _
          · exact absurd hl' (h3 m' (by omega))
        · have hbm := hb (g_bt (nI m))
          rw [if_neg (by rw [h4]; exact nI_m3 (by omega)), h4]
          by_cases c : ct n (g_V out) (g_w (τ 1)) (g_bt (nI m)) ≤ ct n (g_V out) (g_w (τ 1)) (g_bt (nI i))
          · rw [if_pos ((nI_leI (by omega) (by omega)).mpr c)]
            refine Or.inr ⟨m, by omega, h3, rfl, fun m' hm' hl' => ?_⟩
            by_cases e : m' = i
            · rw [e]; exact c
            · exact h5 m' (by omega) hl'
          · rw [if_neg (fun h => c ((nI_leI (by omega) (by omega)).mp h))]
            refine Or.inr ⟨i, by omega, hl, rfl, fun m' hm' hl' => ?_⟩
            by_cases e : m' = i
            · rw [e]; exact Nat.le_refl _
            · have := h5 m' (by omega) hl'; omega
      · exact skip (by rw [e, a2]; unfold r_lo2; rw [if_pos rfl]) (fun hl => a1 ⟨hl.1, hl.2.1⟩)
    by_cases c1 : u < 0
    · exact take (Or.inl c1) (by unfold r_lof; rw [if_pos c1])
    · by_cases c2 : r_sep (nI i) u v = 0
      · exact skip (by unfold r_lof; rw [if_neg c1, if_pos c2]) (fun hl => by
          rcases hl.2.2 with h1 | h1
          · exact c1 h1
          · exact h1 ((hsep c1).mp c2))
      · exact take (Or.inr (fun h => c2 ((hsep c1).mpr h))) (by unfold r_lof; rw [if_neg c1, if_neg c2]))
  rw [Nat.zero_add] at key
  have cover : ∀ S : Nat → Bool, ∃ m, m < 2 ^ n ∧ ∀ j, j < n → S j = g_bt (nI m) j := by
    intro S
    obtain ⟨m, h1, h3⟩ := mask_of S n hn
    exact ⟨m, h1, fun j hj => by rw [g_bt_nI (by omega) (by omega), h3 j hj]⟩
  rcases key with ⟨h1, h3⟩ | ⟨m, h1, h3, h4, h5⟩
  · refine Or.inl ⟨h1, fun S hS => ?_⟩
    obtain ⟨m, hm, hj⟩ := cover S
    exact h3 m hm (LOP_congr huv hn hj hS)
  · refine Or.inr ⟨_, h3, h4, fun T hT => ?_⟩
    obtain ⟨m', hm, hj⟩ := cover T
    rw [ct_congr hj]
    exact h5 m' hm (LOP_congr huv hn hj hT)
end
section
/-! labels: which sets they keep whole -/
set_option maxRecDepth 100000
/-- the labels: each vertex has its group's own vertex; the sets that keep the groups whole are those of Φ -/
def LB (n : Nat) (σ : g_St) (Φ : (Nat → Bool) → Prop) : Prop := ∃ lab : Nat → Nat, (∀ j, j < n → lab j < n ∧ σ 3 j = nI (lab j) ∧ lab (lab j) = lab j) ∧ ∀ S : Nat → Bool, (∀ v, v < n → S (lab v) = S v) ↔ Φ S
theorem LB.congr {n : Nat} {σ : g_St} {Φ Ψ : (Nat → Bool) → Prop} (h : LB n σ Φ) (e : ∀ S, Φ S ↔ Ψ S) : LB n σ Ψ := by
  obtain ⟨lab, h1, h2⟩ := h
  exact ⟨lab, h1, fun S => (h2 S).trans (e S)⟩
theorem LB.in {n : Nat} {σ : g_St} {Φ : (Nat → Bool) → Prop} (h : LB n σ Φ) : ∀ j, j < n → g_in n (σ 3 j) := by
  obtain ⟨lab, h1, -⟩ := h
  exact fun j hj => ⟨lab j, (h1 j hj).1, (h1 j hj).2.1⟩
theorem LB.merge {n u v : Nat} {σ : g_St} {Φ : (Nat → Bool) → Prop} (hn : n ≤ 9) (hu : u < n) (hv : v < n) (h : LB n σ Φ) : LB n (p_ml n (σ 3 u) (σ 3 v) σ) (fun S => Φ S ∧ S u = S v) := by
  obtain ⟨lab, h1, h2⟩ := h
  obtain ⟨ua, ub, uc⟩ := h1 u hu
  obtain ⟨va, vb, vc⟩ := h1 v hv
  -- the two labels in either order
  have main : ∀ s g : Nat, s < n → g < n → lab s = s → lab g = g → ((s = lab u ∧ g = lab v) ∨ (s = lab v ∧ g = lab u)) → (∀ j, j < n → p_ml n (σ 3 u) (σ 3 v) σ 3 j = if lab j = g then nI s else σ 3 j) → LB n (p_ml n (σ 3 u) (σ 3 v) σ) (fun S => Φ S ∧ S u = S v) := by
    intro s g hs hg es eg hsg hat
    refine ⟨fun j => if lab j = g then s else lab j, fun j hj => ?_, fun S => ?_⟩
    · obtain ⟨a, b, c⟩ := h1 j hj
      dsimp only
      rw [hat j hj]
      by_cases e : lab j = g
      · rw [if_pos e, if_pos e]
        refine ⟨hs, rfl, ?_⟩
        rw [es]; split <;> rfl
      · rw [if_neg e, if_neg e]
        refine ⟨a, b, ?_⟩
        rw [c, if_neg e]
    · have hS : (∀ j, j < n → S (lab j) = S j) → (S u = S v ↔ S s = S g) := by
        intro hh
        have eu := hh u hu
        have ev := hh v hv
        rcases hsg with ⟨e1, e2⟩ | ⟨e1, e2⟩
        · rw [e1, e2, eu, ev]
        · rw [e1, e2, eu, ev]; exact ⟨fun h => h.symm, fun h => h.symm⟩
      dsimp only
      constructor
      · intro hh
        have hsg1 : S s = S g := by
          have := hh g hg
          rw [eg, if_pos rfl] at this
          exact this
        have hres : ∀ j, j < n → S (lab j) = S j := by
          intro j hj
          have := hh j hj
          by_cases e : lab j = g
          · rw [if_pos e] at this; rw [e, ← hsg1]; exact this
          · rw [if_neg e] at this; exact this
        exact ⟨(h2 S).mp hres, (hS hres).mpr hsg1⟩
      · rintro ⟨hp, huv⟩ j hj
        have hres := (h2 S).mpr hp
        by_cases e : lab j = g
        · rw [if_pos e, (hS hres).mp huv, ← e]; exact hres j hj
        · rw [if_neg e]; exact hres j hj
  have hat := p_ml_at (n := n) (a := σ 3 u) (b := σ 3 v) (σ := σ)
  have hj : ∀ (j g : Nat), j < n → g < n → (σ 3 j = nI g ↔ lab j = g) := by
    intro j g hj hg
    rw [(h1 j hj).2.1]
    exact nI_eq (by have := (h1 j hj).1; omega) (by omega)
  by_cases c : σ 3 v ≤ σ 3 u
  · refine main (lab v) (lab u) va ua vc uc (Or.inr ⟨rfl, rfl⟩) (fun j hjn => ?_)
    rw [hat j hjn, if_pos c, if_pos c, ub, vb]
    by_cases e : lab j = lab u
    · rw [if_pos e, if_pos ((hj j _ hjn ua).mpr e)]
    · rw [if_neg e, if_neg (fun h => e ((hj j _ hjn ua).mp h))]
  · refine main (lab u) (lab v) ua va uc vc (Or.inl ⟨rfl, rfl⟩) (fun j hjn => ?_)
    rw [hat j hjn, if_neg c, if_neg c, ub, vb]
    by_cases e : lab j = lab v
    · rw [if_pos e, if_pos ((hj j _ hjn va).mpr e)]
    · rw [if_neg e, if_neg (fun h => e ((hj j _ hjn va).mp h))]
/-- startLabels: the groups are those of the glue -/
theorem p_sl_LB {n : Nat} {skip : Int32} {σ : g_St} (hn : n ≤ 9) (hok : g_OK (σ 1) (σ 2)) : LB n (p_sl n skip σ) (GL n (g_V skip) (σ 2)) := by
  have h0 : LB n (lp p_slf n 0 σ) (fun _ => True) := ⟨fun j => j, fun j hj => ⟨hj, p_sl0_at j hj, rfl⟩, fun S => ⟨fun _ => trivial, fun _ v _ => rfl⟩⟩
  have hg : ∀ (s : g_St), s 2 = σ 2 → True := fun _ _ => trivial
  have key := lp_ind (f := p_slu n skip) (fun i s => s 2 = σ 2 ∧ LB n s (fun S => ∀ u v, u < i → u < v → v < n → g_V skip u = true → g_V skip v = true → ¬ σ 2 (u * 9 + v) = 0 → S u = S v)) n 0 (lp p_slf n 0 σ) ⟨lp_keep (f := p_slf) (fun i s => g_up_ne (by decide)) _ _ _, h0.congr (fun S => ⟨fun _ u v h => by omega, fun _ => trivial⟩)⟩ (fun u s _ hu h => by
    have inner := lp_ind (f := p_slv n skip u) (fun j s => s 2 = σ 2 ∧ LB n s (fun S => (∀ u' v, u' < u → u' < v → v < n → g_V skip u' = true → g_V skip v = true → ¬ σ 2 (u' * 9 + v) = 0 → S u' = S v) ∧ ∀ v, u < v → v < j → g_V skip u = true → g_V skip v = true → ¬ σ 2 (u * 9 + v) = 0 → S u = S v)) (n - (u + 1)) (u + 1) s ⟨h.1, h.2.congr (fun S => ⟨fun h => ⟨h, fun v h1 h2 => by omega⟩, fun h => h.1⟩)⟩ (fun v s hv1 hv2 h => by
      have keep : p_slv n skip u v s = s → (¬ (g_V skip u = true ∧ g_V skip v = true ∧ ¬ σ 2 (u * 9 + v) = 0)) → (p_slv n skip u v s 2 = σ 2 ∧ LB n (p_slv n skip u v s) (fun S => (∀ u' v, u' < u → u' < v → v < n → g_V skip u' = true → g_V skip v = true → ¬ σ 2 (u' * 9 + v) = 0 → S u' = S v) ∧ ∀ v', u < v' → v' < v + 1 → g_V skip u = true → g_V skip v' = true → ¬ σ 2 (u * 9 + v') = 0 → S u = S v')) := by
        intro e hno
        rw [e]
        refine ⟨h.1, h.2.congr (fun S => ?_)⟩
        refine and_congr_right (fun _ => ⟨fun hh v' h1 h2 h3 h4 h5 => ?_, fun hh v' h1 h2 => hh v' h1 (by omega)⟩)
        by_cases e : v' = v
        · subst e; exact absurd ⟨h3, h4, h5⟩ hno
        · exact hh v' h1 (by omega) h3 h4 h5
      by_cases c1 : nI u = skip
      · exact keep (by unfold p_slv; rw [if_pos c1]) (fun h => (g_V_t.mp h.1) c1)
      · by_cases c2 : nI v = skip
        · exact keep (by unfold p_slv; rw [if_neg c1, if_pos c2]) (fun h => (g_V_t.mp h.2.1) c2)
        · by_cases c3 : s 2 (u * 9 + v) = 0
          · exact keep (by unfold p_slv; rw [if_neg c1, if_neg c2, if_pos c3]) (fun h' => h'.2.2 (by rw [← h.1]; exact c3))
          · have e : p_slv n skip u v s = p_ml n (s 3 u) (s 3 v) s := by unfold p_slv; rw [if_neg c1, if_neg c2, if_neg c3]
            rw [e]
            refine ⟨by rw [p_ml_k (by decide)]; exact h.1, (h.2.merge hn (by omega) (by omega)).congr (fun S => ?_)⟩
            rw [and_assoc]
            refine and_congr_right (fun _ => ⟨fun hh v' h1 h2 h3 h4 h5 => ?_, fun hh => ⟨fun v' h1 h2 => hh v' h1 (by omega), hh v (by omega) (by omega) (g_V_t.mpr c1) (g_V_t.mpr c2) (by rw [← h.1]; exact c3)⟩⟩)
            by_cases e : v' = v
            · subst e; exact hh.2
            · exact hh.1 v' h1 (by omega) h3 h4 h5)
    refine ⟨inner.1, inner.2.congr (fun S => ?_)⟩
    constructor
    · rintro ⟨ha, hb⟩ u' v h1 h2 h3
      by_cases e : u' = u
      · subst e; exact hb v h2 (by omega)
      · exact ha u' v (by omega) h2 h3
    · intro hh
      exact ⟨fun u' v h1 h2 h3 => hh u' v (by omega) h2 h3, fun v h1 h2 => hh u v (by omega) h1 (by omega)⟩)
  rw [Nat.zero_add] at key
  refine key.2.congr (fun S => ?_)
  constructor
  · intro hh u v hu hv h1 h2 h3
    rcases Nat.lt_trichotomy u v with h | h | h
    · exact hh u v hu h hv h1 h2 h3
    · rw [h]
    · refine (hh v u hv h hu h2 h1 ?_).symm
      rw [(hok.1 v u (by omega) (by omega)).2.2]; exact h3
  · intro hh u v hu huv hv h1 h2 h3
    exact hh u v hu hv h1 h2 h3
/-- mergeSet: one group more -/
theorem p_ms_LB {n : Nat} {set : Int32} {σ : g_St} {Φ : (Nat → Bool) → Prop} (hn : n ≤ 9) (h : LB n σ Φ) : LB n (p_ms n set σ) (fun S => Φ S ∧ ∀ u v, u < n → v < n → g_bt set u = true → g_bt set v = true → S u = S v) := by
  have key := lp_ind (f := p_msf n set) (fun i q => ((q.1 < 0 ∧ ∀ u, u < i → ¬ g_bt set u = true) ∨ ∃ j, j < i ∧ q.1 = nI j ∧ g_bt set j = true) ∧ LB n q.2 (fun S => Φ S ∧ ∀ u v, u < i → v < i → g_bt set u = true → g_bt set v = true → S u = S v)) n 0 (-1, σ) ⟨Or.inl ⟨show (-1 : Int32) < 0 by decide, fun u h => by omega⟩, h.congr (fun S => ⟨fun h => ⟨h, fun u v h => by omega⟩, fun h => h.1⟩)⟩ (fun v q _ hv h => by
    obtain ⟨hf, hL⟩ := h
    unfold p_msf
    by_cases c1 : g_bt set v = true
    · rw [if_neg (not_not_intro (g_bt_t.mp c1))]
      by_cases c2 : 0 ≤ q.1
      · rw [if_pos c2]
        rcases hf with ⟨h1, -⟩ | ⟨j, h1, h2, h3⟩
        · exact absurd h1 (Int32.not_lt.mpr c2)
        · refine ⟨Or.inr ⟨j, by omega, h2, h3⟩, ?_⟩
          show LB n (p_ml n (q.2 3 (nx q.1)) (q.2 3 v) q.2) _
          rw [h2, nx_nI (by omega)]
          refine (hL.merge hn (by omega) (by omega)).congr (fun S => ?_)
          rw [and_assoc]
          refine and_congr_right (fun _ => ⟨fun hh a b ha hb h4 h5 => ?_, fun hh => ⟨fun a b ha hb => hh a b (by omega) (by omega), hh j v (by omega) (by omega) h3 c1⟩⟩)
          have ej : ∀ a, a < v + 1 → g_bt set a = true → S j = S a := by
            intro a ha h6
            by_cases e : a = v
            · rw [e]; exact hh.2
            · exact hh.1 j a h1 (by omega) h3 h6
          rw [← ej a ha h4, ← ej b hb h5]
      · rw [if_neg c2]
        rcases hf with ⟨h1, h2⟩ | ⟨j, h1, h2, h3⟩
        · refine ⟨Or.inr ⟨v, by omega, rfl, c1⟩, hL.congr (fun S => ?_)⟩
          refine and_congr_right (fun _ => ⟨fun hh a b ha hb h4 h5 => ?_, fun hh a b ha hb => hh a b (by omega) (by omega)⟩)
          have ea : a = v := Decidable.byContradiction fun e => h2 a (by omega) h4
          have eb : b = v := Decidable.byContradiction fun e => h2 b (by omega) h5
          rw [ea, eb]
        · exact absurd (by rw [h2]; exact nI_pos' (by omega)) c2
    · have c1' : g_bt set v = false := by cases hb : g_bt set v; rfl; exact absurd hb c1
      rw [if_pos (by rw [g_bt_f.mp c1']; decide)]
      constructor
      · rcases hf with ⟨h1, h2⟩ | ⟨j, h1, h2, h3⟩
        · refine Or.inl ⟨h1, fun u hu => ?_⟩
          by_cases e : u = v
          · rw [e]; exact c1
          · exact h2 u (by omega)
        · exact Or.inr ⟨j, by omega, h2, h3⟩
      · refine hL.congr (fun S => and_congr_right (fun _ => ⟨fun hh a b ha hb h4 h5 => ?_, fun hh a b ha hb => hh a b (by omega) (by omega)⟩))
        have ea : a ≠ v := fun e => c1 (by rw [← e]; exact h4)
        have eb : b ≠ v := fun e => c1 (by rw [← e]; exact h5)
        exact hh a b (by omega) (by omega) h4 h5)
  rw [Nat.zero_add] at key
  exact key.2
end
section
/-! sumWeights: the groups that are left, the weights between them -/
set_option maxRecDepth 100000
def tw (V : Nat → Bool) (lab : Nat → Nat) (w : Nat → Nat → Nat) (x y u v : Nat) : Nat := if V u = true ∧ V v = true ∧ ¬ lab u = lab v ∧ lab u = x ∧ lab v = y then w u v else 0
/-- the weight between the groups x and y -/
def BB (n : Nat) (V : Nat → Bool) (lab : Nat → Nat) (w : Nat → Nat → Nat) (x y : Nat) : Nat := ds n (fun u v => tw V lab w x y u v)
/-- x is a group's own vertex -/
def lf (V : Nat → Bool) (lab : Nat → Nat) (x : Nat) : Bool := decide (V x = true ∧ lab x = x)
theorem p_swv_at {n : Nat} {skip : Int32} {σ : g_St} {lab : Nat → Nat} (hn : n ≤ 9) (hl : ∀ j, j < n → lab j < n ∧ σ 3 j = nI (lab j)) (hok : g_OK (σ 1) (σ 2)) {u v : Nat} (hu : u < n) (hv : v < n) {s : g_St} (h1 : s 1 = σ 1) (h3 : s 3 = σ 3) : ∀ x y, x < n → y < n → p_swv skip u v s 4 (x * 9 + y) = s 4 (x * 9 + y) + nI (tw (g_V skip) lab (g_w (σ 1)) x y u v) := by
  intro x y hx hy
  have z : s 4 (x * 9 + y) = s 4 (x * 9 + y) + nI 0 := by rw [nI_0]; simp
  obtain ⟨lu, eu⟩ := hl u hu
  obtain ⟨lv, ev⟩ := hl v hv
  unfold p_swv
  by_cases c1 : nI u = skip
  · rw [if_pos c1, show tw (g_V skip) lab (g_w (σ 1)) x y u v = 0 from if_neg (fun h => (g_V_t.mp h.1) c1)]; exact z
  · rw [if_neg c1]
    by_cases c2 : nI v = skip
    · rw [if_pos c2, show tw (g_V skip) lab (g_w (σ 1)) x y u v = 0 from if_neg (fun h => (g_V_t.mp h.2.1) c2)]; exact z
    · rw [if_neg c2, h3, h1, eu, ev]
      by_cases c3 : lab u = lab v
      · rw [if_pos (by rw [c3]), show tw (g_V skip) lab (g_w (σ 1)) x y u v = 0 from if_neg (fun h => h.2.2.1 c3)]; exact z
      · rw [if_neg (fun h => c3 ((nI_eq (by omega) (by omega)).mp h)), nx_nI (by omega), nx_nI (by omega)]
        by_cases c4 : lab u = x ∧ lab v = y
        · obtain ⟨rfl, rfl⟩ := c4
          rw [g_up_s, show tw (g_V skip) lab (g_w (σ 1)) (lab u) (lab v) u v = g_w (σ 1) u v from if_pos ⟨g_V_t.mpr c1, g_V_t.mpr c2, c3, rfl, rfl⟩, g_w_e hok (by omega) (by omega)]
        · rw [g_up_n (fun h => c4 ⟨by omega, by omega⟩), show tw (g_V skip) lab (g_w (σ 1)) x y u v = 0 from if_neg (fun h => c4 ⟨h.2.2.2.1, h.2.2.2.2⟩)]; exact z
theorem p_sw_spec {n : Nat} {skip : Int32} {σ : g_St} {lab : Nat → Nat} (hn : n ≤ 9) (hl : ∀ j, j < n → lab j < n ∧ σ 3 j = nI (lab j)) (hok : g_OK (σ 1) (σ 2)) :
    (∀ x, x < n → p_sw n skip σ 6 x = if lf (g_V skip) lab x = true then 1 else 0) ∧ p_sw n skip σ 5 0 = nI (sm n (fun x => if lf (g_V skip) lab x = true then 1 else 0)) ∧ ∀ x y, x < n → y < n → p_sw n skip σ 4 (x * 9 + y) = nI (BB n (g_V skip) lab (g_w (σ 1)) x y) := by
  have hz := lp_ind (f := p_swz) (fun i s => ∀ j, j < i → s 4 j = 0) 81 0 σ (fun j h => by omega) (fun i s _ _ h j hj => by
    unfold p_swz
    by_cases e : j = i
    · subst e; exact g_up_s
    · rw [g_up_n e]; exact h j (by omega))
  have key := lp_ind (f := p_swu n skip) (fun i s => s 3 = σ 3 ∧ s 1 = σ 1 ∧ (∀ x, x < i → s 6 x = if lf (g_V skip) lab x = true then 1 else 0) ∧ s 5 0 = nI (sm i (fun x => if lf (g_V skip) lab x = true then 1 else 0)) ∧ ∀ x y, x < n → y < n → s 4 (x * 9 + y) = nI (sm i (fun u => sm n (fun v => tw (g_V skip) lab (g_w (σ 1)) x y u v)))) n 0 (g_up (lp p_swz 81 0 σ) 5 0 0)
    ⟨by rw [g_up_ne (by decide), lp_keep (f := p_swz) (fun i s => g_up_ne (by decide))], by rw [g_up_ne (by decide), lp_keep (f := p_swz) (fun i s => g_up_ne (by decide))], fun x h => by omega, by rw [g_up_s]; rfl, fun x y hx hy => by rw [g_up_ne (by decide), hz _ (by omega)]; rfl⟩ (fun u s _ hu h => by
    obtain ⟨a3, a1, a6, a5, a4⟩ := h
    have hu : u < n := by omega
    have el : p_swl skip u s 6 u = if lf (g_V skip) lab u = true then 1 else 0 := by
      unfold p_swl
      rw [g_up_s, a3, (hl u hu).2]
      by_cases c1 : nI u = skip
      · rw [if_pos c1, if_neg]
        intro h
        have h := of_decide_eq_true h
        exact (g_V_t.mp h.1) c1
      · rw [if_neg c1]
        by_cases c2 : lab u = u
        · rw [if_neg (not_not_intro (by rw [c2])), if_pos (show lf (g_V skip) lab u = true from decide_eq_true ⟨g_V_t.mpr c1, c2⟩)]
        · rw [if_pos (fun h => c2 ((nI_eq (by have := (hl u hu).1; omega) (by omega)).mp h)), if_neg]
          intro h
          exact c2 (of_decide_eq_true h).2
    have eg : p_swg u (p_swl skip u s) 5 0 = nI (sm (u + 1) (fun x => if lf (g_V skip) lab x = true then 1 else 0)) := by
      rw [p_swg_5 (g := sm u (fun x => if lf (g_V skip) lab x = true then 1 else 0)) (by rw [p_swl_k (by decide)]; exact a5), el]
      congr 1
      show _ = sm u _ + (if lf (g_V skip) lab u = true then 1 else 0)
      by_cases c : lf (g_V skip) lab u = true
      · rw [if_pos c, if_neg (by decide), if_pos c]
      · rw [if_neg c, if_pos rfl, if_neg c]; rfl
    have inner := lp_ind (f := p_swv skip u) (fun j r => r 3 = σ 3 ∧ r 1 = σ 1 ∧ ∀ x y, x < n → y < n → r 4 (x * 9 + y) = nI (sm u (fun u => sm n (fun v => tw (g_V skip) lab (g_w (σ 1)) x y u v)) + sm j (fun v => tw (g_V skip) lab (g_w (σ 1)) x y u v))) n 0 (p_swg u (p_swl skip u s))
      ⟨by rw [p_swg_k (by decide), p_swl_k (by decide)]; exact a3, by rw [p_swg_k (by decide), p_swl_k (by decide)]; exact a1, fun x y hx hy => by rw [p_swg_k (by decide), p_swl_k (by decide), a4 x y hx hy]; rfl⟩ (fun v r _ hv h => by
      obtain ⟨b3, b1, b4⟩ := h
      refine ⟨by rw [p_swv_k (by decide)]; exact b3, by rw [p_swv_k (by decide)]; exact b1, fun x y hx hy => ?_⟩
      rw [p_swv_at hn hl hok hu (by omega) b1 b3 x y hx hy, b4 x y hx hy, nI_add]
      congr 1
      rw [Nat.add_assoc]
      rfl)
    rw [Nat.zero_add] at inner
    refine ⟨inner.1, inner.2.1, fun x hx => ?_, ?_, fun x y hx hy => ?_⟩
    · unfold p_swu
      rw [lp_keep (fun i s => p_swv_k (by decide) i s), p_swg_k (by decide)]
      by_cases e : x = u
      · subst e; exact el
      · unfold p_swl; rw [g_up_n e]; exact a6 x (by omega)
    · unfold p_swu
      rw [lp_keep (fun i s => p_swv_k (by decide) i s)]
      exact eg
    · exact inner.2.2 x y hx hy)
  rw [Nat.zero_add] at key
  obtain ⟨-, -, h6, h5, h4⟩ := key
  exact ⟨h6, h5, h4⟩
/-- the cut among the groups A, with weights B -/
def cA (n : Nat) (A : Nat → Bool) (B : Nat → Nat → Nat) (S : Nat → Bool) : Nat := ds n (fun x y => if A x = true ∧ A y = true ∧ S x = true ∧ S y = false then B x y else 0)
theorem sm_pick (n a : Nat) (p : Nat → Prop) [DecidablePred p] (k : Nat) (h : a < n) : sm n (fun x => if a = x ∧ p x then k else 0) = if p a then k else 0 := by
  rw [← sm_one n a (fun x => if p x then k else 0) h]
  refine sm_congr n (fun x _ => ?_)
  by_cases e : x = a
  · subst e; rw [if_pos rfl]
    by_cases c : p x
    · rw [if_pos ⟨rfl, c⟩, if_pos c]
    · rw [if_neg (fun h => c h.2), if_neg c]
  · rw [if_neg (fun h => e h.1.symm), if_neg e]
/-- the cut among the groups is the cut of the sets that keep them whole -/
theorem cA_ct {n : Nat} {V : Nat → Bool} {lab : Nat → Nat} {w : Nat → Nat → Nat} (hl : ∀ j, j < n → lab j < n ∧ lab (lab j) = lab j) (hV : ∀ j, j < n → V j = true → V (lab j) = true) (S : Nat → Bool) : cA n (lf V lab) (BB n V lab w) S = ct n V w (fun v => S (lab v)) := by
  have e1 : cA n (lf V lab) (BB n V lab w) S = ds n (fun x y => ds n (fun u v => if (V u = true ∧ V v = true ∧ S (lab u) = true ∧ S (lab v) = false) ∧ lab u = x ∧ lab v = y then w u v else 0)) := by
    refine ds_congr n (fun x y hx hy => ?_)
    by_cases c : lf V lab x = true ∧ lf V lab y = true ∧ S x = true ∧ S y = false
    · rw [if_pos c]
      obtain ⟨c1, c2, c3, c4⟩ := c
      refine ds_congr n (fun u v hu hv => ?_)
      unfold tw
      by_cases c5 : lab u = x ∧ lab v = y
      · obtain ⟨rfl, rfl⟩ := c5
        have hne : ¬ lab u = lab v := fun e => by rw [e, c4] at c3; cases c3
        by_cases c6 : V u = true ∧ V v = true
        · rw [if_pos ⟨c6.1, c6.2, hne, rfl, rfl⟩, if_pos ⟨⟨c6.1, c6.2, c3, c4⟩, rfl, rfl⟩]
        · rw [if_neg (fun h => c6 ⟨h.1, h.2.1⟩), if_neg (fun h => c6 ⟨h.1.1, h.1.2.1⟩)]
      · rw [if_neg (fun h => c5 h.2.2.2), if_neg (fun h => c5 h.2)]
    · rw [if_neg c]
      refine (ds_zero n (fun u v hu hv => if_neg (fun h => c ?_))).symm
      obtain ⟨⟨h1, h2, h3, h4⟩, rfl, rfl⟩ := h
      exact ⟨decide_eq_true ⟨hV u hu h1, (hl u hu).2⟩, decide_eq_true ⟨hV v hv h2, (hl v hv).2⟩, h3, h4⟩
  have e2 : ds n (fun x y => ds n (fun u v => if (V u = true ∧ V v = true ∧ S (lab u) = true ∧ S (lab v) = false) ∧ lab u = x ∧ lab v = y then w u v else 0)) = ds n (fun u v => ds n (fun x y => if (V u = true ∧ V v = true ∧ S (lab u) = true ∧ S (lab v) = false) ∧ lab u = x ∧ lab v = y then w u v else 0)) := by
    unfold ds
    -- x y u v  ->  u v x y
    rw [sm_congr n (fun x _ => sm_swap n n _)]
    rw [sm_swap n n]
    refine sm_congr n (fun u _ => ?_)
    rw [sm_congr n (fun x _ => sm_swap n n _)]
    exact sm_swap n n _
  rw [e1, e2]
  refine ds_congr n (fun u v hu hv => ?_)
  by_cases c : V u = true ∧ V v = true ∧ S (lab u) = true ∧ S (lab v) = false
  · rw [if_pos c]
    rw [ds_congr n (g := fun x y => if x = lab u ∧ y = lab v then w u v else 0) (fun x y _ _ => by
      by_cases e : lab u = x ∧ lab v = y
      · rw [if_pos ⟨c, e⟩, if_pos ⟨e.1.symm, e.2.symm⟩]
      · rw [if_neg (fun h => e h.2), if_neg (fun h => e ⟨h.1.symm, h.2.symm⟩)])]
    exact ds_cell n (lab u) (lab v) (fun _ _ => w u v) (hl u hu).1 (hl v hv).1
  · rw [if_neg c]
    exact ds_zero n (fun x y _ _ => if_neg (fun h => c h.1))
theorem BB_s {n : Nat} {V : Nat → Bool} {lab : Nat → Nat} {w : Nat → Nat → Nat} (hw : ∀ u v, u < n → v < n → w u v = w v u) (x y : Nat) : BB n V lab w x y = BB n V lab w y x := by
  unfold BB
  rw [ds_swap]
  refine ds_congr n (fun u v hu hv => ?_)
  unfold tw
  by_cases c : V v = true ∧ V u = true ∧ ¬ lab v = lab u ∧ lab v = x ∧ lab u = y
  · rw [if_pos c, if_pos ⟨c.2.1, c.1, fun e => c.2.2.1 e.symm, c.2.2.2.2, c.2.2.2.1⟩]; exact hw v u hv hu
  · rw [if_neg c, if_neg (fun h => c ⟨h.2.1, h.1, fun e => h.2.2.1 e.symm, h.2.2.2.2, h.2.2.2.1⟩)]
end
section
/-! a phase of Stoer and Wagner, in plain sums -/
set_option maxRecDepth 100000
/-- how much v hangs on the set O -/
def sw_wo (n : Nat) (O : Nat → Bool) (B : Nat → Nat → Nat) (v : Nat) : Nat := sm n (fun u => if O u = true then B u v else 0)
def sw_cn (n : Nat) (O : Nat → Bool) : Nat := sm n (fun x => if O x = true then 1 else 0)
def sw_ad (O : Nat → Bool) (m : Nat) : Nat → Bool := fun u => if u = m then true else O u
def sw_rm (O : Nat → Bool) (m : Nat) : Nat → Bool := fun u => if u = m then false else O u
theorem sw_ad_s {O : Nat → Bool} {m : Nat} : sw_ad O m m = true := if_pos rfl
theorem sw_ad_n {O : Nat → Bool} {m u : Nat} (h : ¬ u = m) : sw_ad O m u = O u := if_neg h
theorem sw_rm_s {O : Nat → Bool} {m : Nat} : sw_rm O m m = false := if_pos rfl
theorem sw_rm_n {O : Nat → Bool} {m u : Nat} (h : ¬ u = m) : sw_rm O m u = O u := if_neg h
theorem sw_bf {b : Bool} (h : ¬ b = true) : b = false := by cases b; rfl; exact absurd rfl h
theorem sw_bn {b : Bool} (h : b = false) : ¬ b = true := by rw [h]; decide
theorem sw_ad_rm {O : Nat → Bool} {m : Nat} (h : O m = true) (x : Nat) : sw_ad (sw_rm O m) m x = O x := by
  by_cases e : x = m
  · rw [e, sw_ad_s, h]
  · rw [sw_ad_n e, sw_rm_n e]
theorem sw_wo_ad {n m : Nat} {O : Nat → Bool} {B : Nat → Nat → Nat} (hm : m < n) (h : O m = false) (v : Nat) : sw_wo n (sw_ad O m) B v = sw_wo n O B v + B m v := by
  have e := sm_upd n m (fun u => if O u = true then B u v else 0) (fun u => if sw_ad O m u = true then B u v else 0) hm (fun i _ hi => by
    show (if sw_ad O m i = true then B i v else 0) = (if O i = true then B i v else 0)
    rw [sw_ad_n hi])
  have e1 : (if O m = true then B m v else 0) = 0 := if_neg (sw_bn h)
  have e2 : (if sw_ad O m m = true then B m v else 0) = B m v := if_pos sw_ad_s
  try dsimp only at e
  rw [e1, e2] at e
  unfold sw_wo
  omega
theorem sw_cnt_ad {n m : Nat} {O : Nat → Bool} (hm : m < n) (h : O m = false) : sw_cn n (sw_ad O m) = sw_cn n O + 1 := by
  have e := sm_upd n m (fun u => if O u = true then 1 else 0) (fun u => if sw_ad O m u = true then 1 else 0) hm (fun i _ hi => by
    show (if sw_ad O m i = true then 1 else 0) = (if O i = true then 1 else 0)
    rw [sw_ad_n hi])
  have e1 : (if O m = true then 1 else 0) = 0 := if_neg (sw_bn h)
  have e2 : (if sw_ad O m m = true then 1 else 0) = 1 := if_pos sw_ad_s
  try dsimp only at e
  rw [e1, e2] at e
  unfold sw_cn
  omega
theorem sw_cnt_congr {n : Nat} {O P : Nat → Bool} (h : ∀ x, x < n → O x = P x) : sw_cn n O = sw_cn n P := sm_congr n (fun i hi => by rw [h i hi])
theorem sw_cnt_rm {n m : Nat} {O : Nat → Bool} (hm : m < n) (h : O m = true) : sw_cn n O = sw_cn n (sw_rm O m) + 1 := by
  rw [← sw_cnt_ad hm (sw_rm_s (O := O))]
  exact sw_cnt_congr (fun x _ => (sw_ad_rm h x).symm)
theorem sw_cnt_le {n : Nat} {O P : Nat → Bool} (h : ∀ x, x < n → O x = true → P x = true) : sw_cn n O ≤ sw_cn n P := sm_le n (fun i hi => by
  by_cases c : O i = true
  · rw [if_pos c, if_pos (h i hi c)]; exact Nat.le_refl _
  · rw [if_neg c]; exact Nat.zero_le _)
theorem sw_cnt_ex {n : Nat} {O : Nat → Bool} (h : 0 < sw_cn n O) : ∃ x, x < n ∧ O x = true := by
  obtain ⟨a, h1, h2⟩ := sm_pos n h
  refine ⟨a, h1, Decidable.byContradiction fun c => ?_⟩
  try dsimp only at h2
  rw [if_neg c] at h2
  exact absurd h2 (Nat.lt_irrefl 0)
theorem sw_cnt_pos {n a : Nat} {O : Nat → Bool} (ha : a < n) (h : O a = true) : 0 < sw_cn n O := by
  have := sw_cnt_rm ha h
  omega
theorem sw_cnt_lt {n : Nat} {O A : Nat → Bool} (h : sw_cn n O < sw_cn n A) : ∃ x, x < n ∧ A x = true ∧ O x = false := by
  refine Decidable.byContradiction fun c => ?_
  have : sw_cn n A ≤ sw_cn n O := sw_cnt_le (fun x hx hA => Decidable.byContradiction fun hO => c ⟨x, hx, hA, sw_bf hO⟩)
  omega
theorem sw_cnt_all {n : Nat} {O A : Nat → Bool} (hs : ∀ x, x < n → O x = true → A x = true) (h : sw_cn n O = sw_cn n A) : ∀ x, x < n → O x = A x := by
  intro x hx
  by_cases c : O x = true
  · rw [c, hs x hx c]
  · rw [sw_bf c]
    refine (sw_bf fun hA => ?_).symm
    have e := sw_cnt_ad hx (sw_bf c)
    have : sw_cn n (sw_ad O x) ≤ sw_cn n A := sw_cnt_le (fun y hy hO => by
      by_cases e : y = x
      · rw [e]; exact hA
      · rw [sw_ad_n e] at hO; exact hs y hy hO)
    omega
theorem sw_NT2 {n : Nat} {A S : Nat → Bool} (h : NT n A S) : 2 ≤ sw_cn n A := by
  obtain ⟨⟨u, h1, h2, h3⟩, ⟨v, h4, h5, h6⟩⟩ := h
  have hne : ¬ v = u := fun e => by rw [e, h3] at h6; cases h6
  have e := sw_cnt_rm h1 h2
  have := sw_cnt_pos (O := sw_rm A u) h4 (by rw [sw_rm_n hne]; exact h5)
  omega
theorem sw_NTex {n : Nat} {A : Nat → Bool} (h : 2 ≤ sw_cn n A) : ∃ S, NT n A S := by
  obtain ⟨u, h1, h2⟩ := sw_cnt_ex (O := A) (n := n) (by omega)
  have e := sw_cnt_rm h1 h2
  obtain ⟨v, h3, h4⟩ := sw_cnt_ex (O := sw_rm A u) (n := n) (by omega)
  have hne : ¬ v = u := fun e => by rw [e, sw_rm_s] at h4; cases h4
  rw [sw_rm_n hne] at h4
  exact ⟨fun x => decide (x = u), ⟨u, h1, h2, decide_eq_true rfl⟩, ⟨v, h3, h4, decide_eq_false hne⟩⟩
theorem sw_cA_congr {n : Nat} {A A' : Nat → Bool} {B B' : Nat → Nat → Nat} {S S' : Nat → Bool} (hA : ∀ x, x < n → A x = A' x) (hB : ∀ x y, x < n → y < n → A x = true → A y = true → B x y = B' x y) (hS : ∀ x, x < n → A x = true → S x = S' x) : cA n A B S = cA n A' B' S' := by
  unfold cA
  refine ds_congr n (fun x y hx hy => ?_)
  by_cases c : A x = true ∧ A y = true
  · obtain ⟨c1, c2⟩ := c
    rw [← hA x hx, ← hA y hy, ← hS x hx c1, ← hS y hy c2, ← hB x y hx hy c1 c2]
  · rw [if_neg (fun h => c ⟨h.1, h.2.1⟩), if_neg (fun h => c ⟨by rw [hA x hx]; exact h.1, by rw [hA y hy]; exact h.2.1⟩)]
/-- one vertex more -/
theorem sw_cA_ad {n m : Nat} {O : Nat → Bool} {B : Nat → Nat → Nat} (hB : ∀ x y, x < n → y < n → B x y = B y x) (hm : m < n) (h : O m = false) (S : Nat → Bool) : cA n (sw_ad O m) B S = cA n O B S + sm n (fun x => if O x = true ∧ ¬ S x = S m then B x m else 0) := by
  have e : cA n (sw_ad O m) B S = ds n (fun x y => (if O x = true ∧ O y = true ∧ S x = true ∧ S y = false then B x y else 0) + ((if x = m then (if O y = true ∧ S m = true ∧ S y = false then B m y else 0) else 0) + (if y = m then (if O x = true ∧ S x = true ∧ S m = false then B x m else 0) else 0))) := by
    unfold cA
    refine ds_congr n (fun x y hx hy => ?_)
    by_cases c1 : x = m
    · subst c1
      by_cases c2 : y = x
      · subst c2
        cases S y <;> simp [h]
      · rw [sw_ad_s, sw_ad_n c2, if_pos rfl, if_neg c2]
        cases O y <;> cases S x <;> cases S y <;> simp [h]
    · by_cases c2 : y = m
      · subst c2
        rw [sw_ad_s, sw_ad_n c1, if_pos rfl, if_neg c1]
        cases O x <;> cases S x <;> cases S y <;> simp [h]
      · rw [sw_ad_n c1, sw_ad_n c2, if_neg c1, if_neg c2]
        rfl
  rw [e, ds_add, ds_add, ds_row n m _ hm, ds_col n m _ hm, ← sm_add]
  show cA n O B S + _ = _
  congr 1
  refine sm_congr n (fun x hx => ?_)
  rw [hB m x hm hx]
  cases O x <;> cases S x <;> cases S m <;> simp
/-- what holds of a set S when the groups O are in order, l last of them -/
def sw_I (n : Nat) (A O : Nat → Bool) (B : Nat → Nat → Nat) (S : Nat → Bool) (l : Nat) : Prop := ∃ P : Nat → Bool, (∀ x, x < n → P x = true → O x = true) ∧ (∀ x, x < n → O x = true → P x = false → S x = S l) ∧ ∀ v, v < n → A v = true → O v = false → sw_wo n P B v ≤ cA n O B S
theorem sw_wo_0 {n : Nat} {O : Nat → Bool} {B : Nat → Nat → Nat} {v : Nat} (h : ∀ x, x < n → O x = false) : sw_wo n O B v = 0 := sm_zero n (fun i hi => if_neg (sw_bn (h i hi)))
theorem sw_wo_le {n : Nat} {O : Nat → Bool} {B : Nat → Nat → Nat} {v K : Nat} (h : ∀ x, x < n → B x v ≤ K) : sw_wo n O B v ≤ n * K := by
  have h1 : sw_wo n O B v ≤ sm n (fun _ => K) := sm_le n (fun i hi => by
    show (if O i = true then B i v else 0) ≤ K
    split
    · exact h i hi
    · exact Nat.zero_le _)
  rw [sm_const] at h1
  exact h1
theorem sw_I_start {n m : Nat} {A O : Nat → Bool} {B : Nat → Nat → Nat} {S : Nat → Bool} (h : ∀ x, x < n → O x = false) : sw_I n A (sw_ad O m) B S m := by
  refine ⟨fun _ => false, fun x _ h => (by cases h), fun x hx h1 _ => ?_, fun v _ _ _ => ?_⟩
  · by_cases e : x = m
    · rw [e]
    · rw [sw_ad_n e, h x hx] at h1; cases h1
  · rw [sw_wo_0 (fun _ _ => rfl)]; exact Nat.zero_le _
theorem sw_I_step {n m l : Nat} {A O : Nat → Bool} {B : Nat → Nat → Nat} {S : Nat → Bool} (hB : ∀ x y, x < n → y < n → B x y = B y x) (h : sw_I n A O B S l) (hm : m < n) (hA : A m = true) (hO : O m = false) (hmax : ∀ v, v < n → A v = true → O v = false → sw_wo n O B v ≤ sw_wo n O B m) : sw_I n A (sw_ad O m) B S m ∧ (¬ S l = S m → sw_wo n O B m ≤ cA n (sw_ad O m) B S) := by
  obtain ⟨P, h1, h2, h3⟩ := h
  have key : ¬ S l = S m → sw_wo n O B m ≤ cA n (sw_ad O m) B S := by
    intro hne
    have a1 : sw_wo n O B m ≤ sw_wo n P B m + sm n (fun x => if O x = true ∧ ¬ S x = S m then B x m else 0) := by
      unfold sw_wo
      rw [← sm_add]
      refine sm_le n (fun x hx => ?_)
      by_cases c : O x = true
      · rw [if_pos c]
        by_cases c2 : P x = true
        · rw [if_pos c2]; exact Nat.le_add_right _ _
        · have e : S x = S l := h2 x hx c (sw_bf c2)
          have e3 : (if O x = true ∧ ¬ S x = S m then B x m else 0) = B x m := if_pos ⟨c, fun e2 => hne (e.symm.trans e2)⟩
          rw [e3]; exact Nat.le_add_left _ _
      · rw [if_neg c]; exact Nat.zero_le _
    have a2 := h3 m hm hA hO
    rw [sw_cA_ad hB hm hO]
    omega
  refine ⟨?_, key⟩
  by_cases c : S l = S m
  · refine ⟨P, fun x hx hP => ?_, fun x hx h4 h5 => ?_, fun v hv h4 h5 => ?_⟩
    · by_cases e : x = m
      · rw [e]; exact sw_ad_s
      · rw [sw_ad_n e]; exact h1 x hx hP
    · by_cases e : x = m
      · rw [e]
      · rw [sw_ad_n e] at h4; rw [← c]; exact h2 x hx h4 h5
    · have e : ¬ v = m := fun e => by rw [e, sw_ad_s] at h5; cases h5
      rw [sw_ad_n e] at h5
      have := h3 v hv h4 h5
      rw [sw_cA_ad hB hm hO]
      omega
  · refine ⟨O, fun x hx hP => ?_, fun x hx h4 h5 => ?_, fun v hv h4 h5 => ?_⟩
    · by_cases e : x = m
      · rw [e]; exact sw_ad_s
      · rw [sw_ad_n e]; exact hP
    · by_cases e : x = m
      · rw [e]
      · rw [sw_ad_n e, h5] at h4; cases h4
    · have e : ¬ v = m := fun e => by rw [e, sw_ad_s] at h5; cases h5
      rw [sw_ad_n e] at h5
      exact Nat.le_trans (hmax v hv h4 h5) (key c)
/-- merging t into s -/
def mB (s t : Nat) (B : Nat → Nat → Nat) (x y : Nat) : Nat := if x = s then (if y = s then 0 else B s y + B t y) else if y = s then B s x + B t x else B x y
theorem mB_s {n s t : Nat} {B : Nat → Nat → Nat} (hB : ∀ x y, x < n → y < n → B x y = B y x) : ∀ x y, x < n → y < n → mB s t B x y = mB s t B y x := by
  intro x y hx hy
  unfold mB
  by_cases c1 : x = s
  · by_cases c2 : y = s
    · rw [c1, c2]
    · rw [if_pos c1, if_neg c2, if_neg c2, if_pos c1]
  · by_cases c2 : y = s
    · rw [if_neg c1, if_pos c2, if_pos c2, if_neg c1]
    · rw [if_neg c1, if_neg c2, if_neg c2, if_neg c1]; exact hB x y hx hy
theorem mB_le {n s t K : Nat} {B : Nat → Nat → Nat} (hs : s < n) (ht : t < n) (hB : ∀ x y, x < n → y < n → B x y ≤ K) : ∀ x y, x < n → y < n → mB s t B x y ≤ 2 * K := by
  intro x y hx hy
  unfold mB
  have a1 := hB s y hs hy
  have a2 := hB t y ht hy
  have a3 := hB s x hs hx
  have a4 := hB t x ht hx
  have a5 := hB x y hx hy
  split
  · split <;> omega
  · split <;> omega
/-- a set that doesn't part s and t has the same cut -/
theorem sw_cA_mB {n s t : Nat} {A : Nat → Bool} {B : Nat → Nat → Nat} (hB : ∀ x y, x < n → y < n → B x y = B y x) (hs : s < n) (ht : t < n) (hne : ¬ s = t) (hA : A s = true) (hAt : A t = true) {S : Nat → Bool} (hS : S s = S t) : cA n (sw_rm A t) (mB s t B) S = cA n A B S := by
  have hst : sw_rm A t s = true := by rw [sw_rm_n hne]; exact hA
  have e1 : cA n A B S = cA n (sw_ad (sw_rm A t) t) B S := sw_cA_congr (fun x _ => (sw_ad_rm hAt x).symm) (fun _ _ _ _ _ _ => rfl) (fun _ _ _ => rfl)
  have e2 : ∀ B', cA n (sw_rm A t) B' S = cA n (sw_ad (sw_rm (sw_rm A t) s) s) B' S := fun B' => sw_cA_congr (fun x _ => (sw_ad_rm hst x).symm) (fun _ _ _ _ _ _ => rfl) (fun _ _ _ => rfl)
  rw [e1, sw_cA_ad hB ht sw_rm_s, e2 B, e2 (mB s t B), sw_cA_ad hB hs sw_rm_s, sw_cA_ad (mB_s hB) hs sw_rm_s]
  have e3 : cA n (sw_rm (sw_rm A t) s) (mB s t B) S = cA n (sw_rm (sw_rm A t) s) B S := sw_cA_congr (fun _ _ => rfl) (fun x y hx hy h1 h2 => by
    have n1 : ¬ x = s := fun e => by rw [e, sw_rm_s] at h1; cases h1
    have n2 : ¬ y = s := fun e => by rw [e, sw_rm_s] at h2; cases h2
    unfold mB
    rw [if_neg n1, if_neg n2]) (fun _ _ _ => rfl)
  rw [e3, Nat.add_assoc]
  congr 1
  rw [← sm_add]
  refine sm_congr n (fun x hx => ?_)
  by_cases c : x = s
  · subst c
    rw [if_neg (fun h => by rw [sw_rm_s] at h; cases h.1), if_neg (fun h => by rw [sw_rm_s] at h; cases h.1), if_neg (fun h => h.2 hS)]
  · rw [sw_rm_n c, hS]
    unfold mB
    rw [if_neg c, if_pos rfl, hB s x hs hx, hB t x ht hx]
    by_cases c2 : sw_rm A t x = true ∧ ¬ S x = S t
    · rw [if_pos c2, if_pos c2, if_pos c2]
    · rw [if_neg c2, if_neg c2, if_neg c2]
end
section
/-! phases over the picture: mostHanging, phase, mergeLastTwo, leastOfGroups -/
set_option maxRecDepth 100000
def sw_PB (n : Nat) (B : Nat → Nat → Nat) (σ : g_St) : Prop := ∀ x y, x < n → y < n → σ 4 (x * 9 + y) = nI (B x y)
def sw_PA (n : Nat) (A : Nat → Bool) (f : Nat → Int32) : Prop := ∀ x, x < n → f x = if A x = true then 1 else 0
theorem sw_PA.z {n : Nat} {A : Nat → Bool} {f : Nat → Int32} (h : sw_PA n A f) {x : Nat} (hx : x < n) : f x = 0 ↔ A x = false := by
  rw [h x hx]
  cases A x <;> simp
theorem p_mh_spec {n : Nat} {A O : Nat → Bool} {f : Nat → Nat} {s : g_St} (hn : n ≤ 9) (h6 : sw_PA n A (s 6)) (h7 : sw_PA n O (s 7)) (h8 : ∀ v, v < n → A v = true → O v = false → s 8 v = nI (f v) ∧ f v < 2 ^ 31) (hex : ∃ v, v < n ∧ A v = true ∧ O v = false) : ∃ m, m < n ∧ A m = true ∧ O m = false ∧ p_mh n s = nI m ∧ ∀ v, v < n → A v = true → O v = false → f v ≤ f m := by
  have key := lp_ind (f := p_mhf s) (fun i b => (b = -1 ∧ ∀ v, v < i → ¬ (A v = true ∧ O v = false)) ∨ ∃ m, m < i ∧ A m = true ∧ O m = false ∧ b = nI m ∧ ∀ v, v < i → A v = true → O v = false → f v ≤ f m) n 0 (-1) (Or.inl ⟨rfl, fun v h => by omega⟩) (fun i b _ hi h => by
    have hi : i < n := by omega
    have keep : ¬ (A i = true ∧ O i = false) → p_mhf s i b = b → ((p_mhf s i b = -1 ∧ ∀ v, v < i + 1 → ¬ (A v = true ∧ O v = false)) ∨ ∃ m, m < i + 1 ∧ A m = true ∧ O m = false ∧ p_mhf s i b = nI m ∧ ∀ v, v < i + 1 → A v = true → O v = false → f v ≤ f m) := by
      intro hno e
      rw [e]
      rcases h with ⟨h1, h2⟩ | ⟨m, h1, h2, h3, h4, h5⟩
      · refine Or.inl ⟨h1, fun v hv => ?_⟩
        by_cases e : v = i
        · rw [e]; exact hno
        · exact h2 v (by omega)
      · refine Or.inr ⟨m, by omega, h2, h3, h4, fun v hv h6 h7 => ?_⟩
        by_cases e : v = i
        · rw [e] at h6 h7; exact absurd ⟨h6, h7⟩ hno
        · exact h5 v (by omega) h6 h7
    by_cases c1 : A i = true
    · have c1' : ¬ s 6 i = 0 := fun e => by rw [(h6.z hi).mp e] at c1; cases c1
      by_cases c2 : O i = false
      · have c2' : s 7 i = 0 := (h7.z hi).mpr c2
        rcases h with ⟨h1, h2⟩ | ⟨m, h1, h2, h3, h4, h5⟩
        · have e : p_mhf s i b = nI i := by
            unfold p_mhf
            rw [if_neg c1', if_neg (not_not_intro c2'), if_pos (by rw [h1]; decide)]
          rw [e]
          refine Or.inr ⟨i, by omega, c1, c2, rfl, fun v hv h6 h7 => ?_⟩
          by_cases e : v = i
          · rw [e]; exact Nat.le_refl _
          · exact absurd ⟨h6, h7⟩ (h2 v (by omega))
        · obtain ⟨a1, a2⟩ := h8 i hi c1 c2
          obtain ⟨b1, b2⟩ := h8 m (by omega) h2 h3
          have e : p_mhf s i b = if nI (f i) ≤ nI (f m) then nI m else nI i := by
            unfold p_mhf
            rw [if_neg c1', if_neg (not_not_intro c2'), h4, if_neg (nI_pos (by omega)), nx_nI (by omega), a1, b1]
          rw [e]
          by_cases c3 : f i ≤ f m
          · rw [if_pos ((nI_leI a2 b2).mpr c3)]
            refine Or.inr ⟨m, by omega, h2, h3, rfl, fun v hv h6 h7 => ?_⟩
            by_cases e : v = i
            · rw [e]; exact c3
            · exact h5 v (by omega) h6 h7
          · rw [if_neg (fun h => c3 ((nI_leI a2 b2).mp h))]
            refine Or.inr ⟨i, by omega, c1, c2, rfl, fun v hv h6 h7 => ?_⟩
            by_cases e : v = i
            · rw [e]; exact Nat.le_refl _
            · have := h5 v (by omega) h6 h7; omega
      · refine keep (fun h => c2 h.2) ?_
        unfold p_mhf
        rw [if_neg c1', if_pos (fun e => c2 ((h7.z hi).mp e))]
    · refine keep (fun h => c1 h.1) ?_
      unfold p_mhf
      rw [if_pos ((h6.z hi).mpr (sw_bf c1))])
  rw [Nat.zero_add] at key
  rcases key with ⟨-, h2⟩ | ⟨m, h1, h2, h3, h4, h5⟩
  · obtain ⟨v, a1, a2, a3⟩ := hex
    exact absurd ⟨a2, a3⟩ (h2 v a1)
  · refine ⟨m, h1, h2, h3, ?_, h5⟩
    unfold p_mh
    rw [h4, if_pos (nI_pos' (by omega))]
theorem p_phl_at {n : Nat} {r : g_St} : (∀ k, ¬ k = 8 → lp p_phv n 0 r k = r k) ∧ ∀ v, v < n → lp p_phv n 0 r 8 v = if r 6 v = 0 then r 8 v else if ¬ r 7 v = 0 then r 8 v else r 8 v + r 4 (nx (r 9 0) * 9 + v) := by
  refine ⟨fun k hk => lp_keep (fun i s => p_phv_k hk i s) _ _ _, ?_⟩
  have key := lp_ind (f := p_phv) (fun i s => (∀ k, ¬ k = 8 → s k = r k) ∧ (∀ v, v < i → s 8 v = if r 6 v = 0 then r 8 v else if ¬ r 7 v = 0 then r 8 v else r 8 v + r 4 (nx (r 9 0) * 9 + v)) ∧ ∀ v, i ≤ v → s 8 v = r 8 v) n 0 r ⟨fun _ _ => rfl, fun v h => by omega, fun _ _ => rfl⟩ (fun i s _ _ h => by
    obtain ⟨h1, h2, h3⟩ := h
    refine ⟨fun k hk => by rw [p_phv_k hk]; exact h1 k hk, fun v hv => ?_, fun v hv => ?_⟩
    · by_cases e : v = i
      · subst e
        unfold p_phv
        rw [h1 6 (by decide), h1 7 (by decide), h1 4 (by decide), h1 9 (by decide), h3 v (Nat.le_refl _)]
        split
        · exact h3 v (Nat.le_refl _)
        · split
          · exact h3 v (Nat.le_refl _)
          · exact g_up_s
      · rw [← h2 v (by omega)]
        unfold p_phv
        split
        · rfl
        · split
          · rfl
          · exact g_up_n e
    · rw [← h3 v (by omega)]
      unfold p_phv
      split
      · rfl
      · split
        · rfl
        · exact g_up_n (by omega))
  rw [Nat.zero_add] at key
  exact key.2.1
/-- what holds behind j steps of a phase -/
def sw_J (n : Nat) (A : Nat → Bool) (B : Nat → Nat → Nat) (j : Nat) (s : g_St) : Prop := sw_PB n B s ∧ sw_PA n A (s 6) ∧ ∃ O : Nat → Bool, sw_PA n O (s 7) ∧ (∀ x, x < n → O x = true → A x = true) ∧ sw_cn n O = j ∧ (∀ v, v < n → A v = true → O v = false → s 8 v = nI (sw_wo n O B v)) ∧ (j = 0 ∨ ∃ (l : Nat) (Q : Nat → Bool), l < n ∧ Q l = false ∧ O = sw_ad Q l ∧ s 9 0 = nI l ∧ s 8 l = nI (sw_wo n Q B l) ∧ (∀ S, sw_I n A O B S l) ∧ (j = 1 ∨ ∃ b, b < n ∧ Q b = true ∧ s 10 0 = nI b ∧ ∀ S : Nat → Bool, ¬ S b = S l → sw_wo n Q B l ≤ cA n O B S))
theorem sw_J_step {n K j : Nat} {A : Nat → Bool} {B : Nat → Nat → Nat} {s : g_St} (hn : n ≤ 9) (hB : ∀ x y, x < n → y < n → B x y = B y x) (hK : ∀ x y, x < n → y < n → B x y ≤ K) (hKb : K ≤ 2 ^ 24) (hj : j < sw_cn n A) (h : sw_J n A B j s) : sw_J n A B (j + 1) (p_phi n j s) := by
  obtain ⟨hPB, h6, O, h7, hOA, hc, h8, hl⟩ := h
  have hwo : ∀ (Q : Nat → Bool) v, v < n → sw_wo n Q B v < 2 ^ 31 := by
    intro Q v hv
    have a1 := sw_wo_le (n := n) (O := Q) (B := B) (v := v) (K := K) (fun x hx => hK x v hx hv)
    have a2 : n * K ≤ 9 * 2 ^ 24 := Nat.mul_le_mul hn hKb
    omega
  obtain ⟨m, hm, hAm, hOm, em, hmax⟩ := p_mh_spec (f := sw_wo n O B) (s := g_up s 10 0 (s 9 0)) hn h6 h7 (fun v hv h1 h2 => ⟨h8 v hv h1 h2, hwo O v hv⟩) (sw_cnt_lt (by omega))
  obtain ⟨k1, k2⟩ := p_phl_at (n := n) (r := p_phm n s)
  have r4 : p_phm n s 4 = s 4 := rfl
  have r6 : p_phm n s 6 = s 6 := rfl
  have r8 : p_phm n s 8 = s 8 := rfl
  have r9 : p_phm n s 9 0 = nI m := em
  have r10 : p_phm n s 10 0 = s 9 0 := rfl
  have r7 : sw_PA n (sw_ad O m) (p_phm n s 7) := by
    intro x hx
    show upd (s 7) (nx (p_mh n (g_up s 10 0 (s 9 0)))) 1 x = _
    rw [em, nx_nI (by omega)]
    by_cases e : x = m
    · rw [e, sw_ad_s, if_pos rfl]; exact if_pos rfl
    · rw [sw_ad_n e, show upd (s 7) m 1 x = s 7 x from if_neg e]; exact h7 x hx
  have f8 : ∀ v, v < n → p_phi n j s 8 v = if A v = true ∧ sw_ad O m v = false then s 8 v + nI (B m v) else s 8 v := by
    intro v hv
    show lp p_phv n 0 (p_phm n s) 8 v = _
    rw [k2 v hv, r4, r6, r8, r9, nx_nI (by omega), hPB m v hm hv]
    by_cases c1 : A v = true
    · rw [if_neg (fun e => by rw [(h6.z hv).mp e] at c1; cases c1)]
      by_cases c2 : sw_ad O m v = false
      · rw [if_neg (not_not_intro ((r7.z hv).mpr c2)), if_pos ⟨c1, c2⟩]
      · rw [if_pos (fun e => c2 ((r7.z hv).mp e)), if_neg (fun h => c2 h.2)]
    · rw [if_pos ((h6.z hv).mpr (sw_bf c1)), if_neg (fun h => c1 h.1)]
  have g4 : p_phi n j s 4 = s 4 := (k1 4 (by decide)).trans r4
  have g6 : p_phi n j s 6 = s 6 := (k1 6 (by decide)).trans r6
  have g7 : p_phi n j s 7 = p_phm n s 7 := k1 7 (by decide)
  have g9 : p_phi n j s 9 0 = nI m := by
    show lp p_phv n 0 (p_phm n s) 9 0 = _
    rw [k1 9 (by decide)]; exact r9
  have g10 : p_phi n j s 10 0 = s 9 0 := p_phi_10
  refine ⟨fun x y hx hy => by rw [g4]; exact hPB x y hx hy, by rw [g6]; exact h6, sw_ad O m, by rw [g7]; exact r7, fun x hx h1 => ?_, by rw [sw_cnt_ad hm hOm, hc], fun v hv h1 h2 => ?_, Or.inr ⟨m, O, hm, hOm, rfl, g9, ?_, ?_⟩⟩
  · by_cases e : x = m
    · rw [e]; exact hAm
    · rw [sw_ad_n e] at h1; exact hOA x hx h1
  · rw [f8 v hv, if_pos ⟨h1, h2⟩]
    have e : ¬ v = m := fun e => by rw [e, sw_ad_s] at h2; cases h2
    rw [sw_ad_n e] at h2
    rw [h8 v hv h1 h2, nI_add, sw_wo_ad hm hOm]
  · rw [f8 m hm, if_neg (fun h => by rw [sw_ad_s] at h; cases h.2)]
    exact h8 m hm hAm hOm
  · rcases hl with h0 | ⟨l, Q, hl, hQ, eO, e9, -, hI, -⟩
    · have hz : ∀ x, x < n → O x = false := fun x hx => sw_bf (fun hx1 => by have := sw_cnt_pos hx hx1; omega)
      exact ⟨fun S => sw_I_start hz, Or.inl (by omega)⟩
    · refine ⟨fun S => (sw_I_step hB (hI S) hm hAm hOm hmax).1, Or.inr ⟨l, hl, by rw [eO]; exact sw_ad_s, by rw [g10]; exact e9, fun S hS => (sw_I_step hB (hI S) hm hAm hOm hmax).2 hS⟩⟩
theorem p_phz_at {n : Nat} {σ : g_St} : (∀ k, ¬ k = 7 → ¬ k = 8 → lp p_phz n 0 σ k = σ k) ∧ ∀ v, v < n → lp p_phz n 0 σ 7 v = 0 ∧ lp p_phz n 0 σ 8 v = 0 := by
  refine ⟨fun k h1 h2 => lp_keep (f := p_phz) (fun i s => by unfold p_phz; rw [g_up_ne h2, g_up_ne h1]) _ _ _, ?_⟩
  have key := lp_ind (f := p_phz) (fun i s => ∀ v, v < i → s 7 v = 0 ∧ s 8 v = 0) n 0 σ (fun v h => by omega) (fun i s _ _ h v hv => by
    unfold p_phz
    rw [g_up_ne (k := 8) (a := 7) (by decide)]
    by_cases e : v = i
    · subst e; exact ⟨g_up_s, g_up_s⟩
    · rw [g_up_n e, g_up_n e, g_up_ne (k := 7) (a := 8) (by decide)]; exact h v (by omega))
  rw [Nat.zero_add] at key
  exact key
/-- a phase: the last one's cut is the least that parts the last two -/
theorem p_ph_spec {n K : Nat} {A : Nat → Bool} {B : Nat → Nat → Nat} {σ : g_St} (hn : n ≤ 9) (hB : ∀ x y, x < n → y < n → B x y = B y x) (hK : ∀ x y, x < n → y < n → B x y ≤ K) (hKb : K ≤ 2 ^ 24) (hPB : sw_PB n B σ) (h6 : sw_PA n A (σ 6)) (hc : 2 ≤ sw_cn n A) :
    ∃ s t v, s < n ∧ t < n ∧ ¬ s = t ∧ A s = true ∧ A t = true ∧ p_ph n (sw_cn n A) σ 9 0 = nI t ∧ p_ph n (sw_cn n A) σ 10 0 = nI s ∧ p_ph n (sw_cn n A) σ 8 t = nI v ∧ v < 2 ^ 31 ∧ (∀ S : Nat → Bool, ¬ S s = S t → v ≤ cA n A B S) ∧ v = cA n A B (fun x => decide (x = t)) ∧ sw_PB n B (p_ph n (sw_cn n A) σ) ∧ sw_PA n A (p_ph n (sw_cn n A) σ 6) := by
  obtain ⟨z1, z2⟩ := p_phz_at (n := n) (σ := σ)
  have start : sw_J n A B 0 (g_up (lp p_phz n 0 σ) 9 0 (-1)) := by
    refine ⟨fun x y hx hy => ?_, ?_, fun _ => false, fun x hx => ?_, fun x _ h => (by cases h), sm_zero n (fun _ _ => rfl), fun v hv _ _ => ?_, Or.inl rfl⟩
    · rw [g_up_ne (by decide), z1 4 (by decide) (by decide)]; exact hPB x y hx hy
    · rw [g_up_ne (by decide), z1 6 (by decide) (by decide)]; exact h6
    · rw [g_up_ne (by decide), (z2 x hx).1]; rfl
    · rw [g_up_ne (by decide), (z2 v hv).2, sw_wo_0 (fun _ _ => rfl)]; rfl
  have key := lp_ind (f := p_phi n) (sw_J n A B) (sw_cn n A) 0 _ start (fun j s _ hj h => sw_J_step hn hB hK hKb (by omega) h)
  rw [Nat.zero_add] at key
  obtain ⟨a1, a2, O, a3, a4, a5, a6, a7⟩ := key
  have hOA := sw_cnt_all a4 a5
  rcases a7 with h0 | ⟨l, Q, b1, b2, b3, b4, b5, -, b7⟩
  · omega
  · rcases b7 with h1 | ⟨b, c1, c2, c3, c4⟩
    · omega
    · have hbl : ¬ b = l := fun e => by rw [e, b2] at c2; cases c2
      have eA : ∀ S, cA n O B S = cA n A B S := fun S => sw_cA_congr hOA (fun _ _ _ _ _ _ => rfl) (fun _ _ _ => rfl)
      refine ⟨b, l, sw_wo n Q B l, c1, b1, hbl, ?_, ?_, b4, c3, b5, ?_, fun S hS => by rw [← eA]; exact c4 S hS, ?_, a1, a2⟩
      · exact a4 b c1 (by rw [b3, sw_ad_n hbl]; exact c2)
      · exact a4 l b1 (by rw [b3]; exact sw_ad_s)
      · have q1 := sw_wo_le (n := n) (O := Q) (B := B) (v := l) (K := K) (fun x hx => hK x l hx b1)
        have q2 : n * K ≤ 9 * 2 ^ 24 := Nat.mul_le_mul hn hKb
        omega
      · rw [← eA, b3, sw_cA_ad hB b1 b2]
        have q1 : cA n Q B (fun x => decide (x = l)) = 0 := ds_zero n (fun x y _ _ => if_neg (fun h => by
          have e := of_decide_eq_true h.2.2.1
          rw [e, b2] at h
          exact absurd h.1 (by decide)))
        rw [q1, Nat.zero_add]
        refine sm_congr n (fun x hx => ?_)
        by_cases c : Q x = true
        · have hxl : ¬ x = l := fun e => by rw [e, b2] at c; cases c
          rw [if_pos c, if_pos ⟨c, by simp [hxl]⟩]
        · rw [if_neg c, if_neg (fun h => c h.1)]
theorem p_mt_spec {n s t : Nat} {B : Nat → Nat → Nat} {σ : g_St} (hn : n ≤ 9) (hs : s < n) (ht : t < n) (hne : ¬ s = t) (h9 : σ 9 0 = nI t) (h10 : σ 10 0 = nI s) (hPB : sw_PB n B σ) : sw_PB n (mB s t B) (p_mt n σ) ∧ ∀ x, x < n → p_mt n σ 6 x = if x = t then 0 else σ 6 x := by
  have key := lp_ind (f := p_mtf) (fun i r => (∀ k, ¬ k = 4 → r k = σ k) ∧ ∀ x y, x < n → y < n → ¬ (x = s ∧ y = s) → r 4 (x * 9 + y) = nI (if x = s then (if y < i then B s y + B t y else B s y) else if y = s then (if x < i then B s x + B t x else B x s) else B x y)) n 0 σ ⟨fun _ _ => rfl, fun x y hx hy hxy => by
      rw [hPB x y hx hy]
      by_cases c1 : x = s
      · rw [if_pos c1, if_neg (by omega), c1]
      · rw [if_neg c1]
        by_cases c2 : y = s
        · rw [if_pos c2, if_neg (by omega), c2]
        · rw [if_neg c2]⟩ (fun v r _ hv h => by
    obtain ⟨h1, h2⟩ := h
    have hv : v < n := by omega
    refine ⟨fun k hk => by rw [p_mtf_k hk]; exact h1 k hk, fun x y hx hy hxy => ?_⟩
    have e9 : nx (r 9 0) = t := by rw [h1 9 (by decide), h9, nx_nI (by omega)]
    have e10 : nx (r 10 0) = s := by rw [h1 10 (by decide), h10, nx_nI (by omega)]
    have q1 : p_mt1 v r = g_up r 4 (s * 9 + v) (r 4 (s * 9 + v) + r 4 (t * 9 + v)) := by unfold p_mt1; rw [e9, e10]
    have q2 : p_mtf v r = g_up (p_mt1 v r) 4 (v * 9 + s) (r 4 (s * 9 + v) + r 4 (t * 9 + v)) := by
      unfold p_mtf p_mt2
      have : nx (p_mt1 v r 10 0) = s := by rw [q1, g_up_ne (by decide)]; exact e10
      rw [this]
      congr 1
      rw [q1]; exact g_up_s
    rw [q2]
    by_cases c : v = s
    · subst c
      rw [g_up_n (by omega), q1, g_up_n (by omega), h2 x y hx hy hxy]
      congr 1
      by_cases c1 : x = v
      · rw [if_pos c1, if_pos c1]
        by_cases c3 : y < v
        · rw [if_pos c3, if_pos (by omega)]
        · rw [if_neg c3, if_neg (by omega)]
      · rw [if_neg c1, if_neg c1]
        by_cases c2 : y = v
        · rw [if_pos c2, if_pos c2]
          by_cases c3 : x < v
          · rw [if_pos c3, if_pos (by omega)]
          · rw [if_neg c3, if_neg (by omega)]
        · rw [if_neg c2, if_neg c2]
    · have w1 : r 4 (s * 9 + v) = nI (B s v) := by
        rw [h2 s v hs hv (fun h => c h.2), if_pos rfl, if_neg (by omega)]
      have w2 : r 4 (t * 9 + v) = nI (B t v) := by
        rw [h2 t v ht hv (fun h => c h.2), if_neg (fun e => hne e.symm), if_neg c]
      rw [w1, w2, nI_add]
      by_cases c1 : x = s
      · subst c1
        rw [g_up_n (by omega), q1, w1, w2, nI_add, if_pos rfl]
        by_cases c2 : y = v
        · subst c2
          rw [g_up_s, if_pos (by omega)]
        · rw [g_up_n (by omega), h2 x y hx hy hxy, if_pos rfl]
          congr 1
          by_cases c3 : y < v
          · rw [if_pos c3, if_pos (by omega)]
          · rw [if_neg c3, if_neg (by omega)]
      · rw [if_neg c1]
        by_cases c2 : y = s
        · subst c2
          rw [if_pos rfl]
          by_cases c3 : x = v
          · subst c3
            rw [g_up_s, if_pos (by omega)]
          · rw [g_up_n (by omega), q1, g_up_n (by omega), h2 x y hx hy hxy, if_neg c1, if_pos rfl]
            congr 1
            by_cases c4 : x < v
            · rw [if_pos c4, if_pos (by omega)]
            · rw [if_neg c4, if_neg (by omega)]
        · rw [if_neg c2, g_up_n (by omega), q1, g_up_n (by omega), h2 x y hx hy hxy, if_neg c1, if_neg c2])
  rw [Nat.zero_add] at key
  obtain ⟨h1, h2⟩ := key
  have e9 : nx (lp p_mtf n 0 σ 9 0) = t := by rw [h1 9 (by decide), h9, nx_nI (by omega)]
  have e10 : nx (lp p_mtf n 0 σ 10 0) = s := by rw [h1 10 (by decide), h10, nx_nI (by omega)]
  have q : p_mt n σ = g_up (g_up (lp p_mtf n 0 σ) 4 (s * 9 + s) 0) 6 t 0 := by unfold p_mt p_mte; rw [e9, e10]
  rw [q]
  constructor
  · intro x y hx hy
    rw [g_up_ne (by decide)]
    by_cases c : x = s ∧ y = s
    · obtain ⟨rfl, rfl⟩ := c
      rw [g_up_s]
      unfold mB
      rw [if_pos rfl, if_pos rfl]; rfl
    · rw [g_up_n (by omega), h2 x y hx hy c]
      congr 1
      unfold mB
      by_cases c1 : x = s
      · rw [if_pos c1, if_pos c1, if_pos hy, if_neg (fun e => c ⟨c1, e⟩)]
      · rw [if_neg c1, if_neg c1]
        by_cases c2 : y = s
        · rw [if_pos c2, if_pos c2, if_pos hx]
        · rw [if_neg c2, if_neg c2]
  · intro x hx
    by_cases c : x = t
    · rw [if_pos c, c]; exact g_up_s
    · rw [if_neg c, g_up_n c, g_up_ne (by decide), h1 6 (by decide)]
theorem p_lgr_spec {n : Nat} (hn : n ≤ 9) : ∀ (k K b : Nat) (σ : g_St) (A : Nat → Bool) (B : Nat → Nat → Nat), sw_PB n B σ → sw_PA n A (σ 6) → (∀ x y, x < n → y < n → B x y = B y x) → (∀ x y, x < n → y < n → B x y ≤ K) → K * 2 ^ k ≤ 2 ^ 24 → sw_cn n A = k + 1 → b ≤ 1000000 →
    ∃ r, (p_lgr n k (nI b, σ)).1 = nI r ∧ r ≤ b ∧ (∀ S, NT n A S → r ≤ cA n A B S) ∧ (r = b ∨ ∃ S, NT n A S ∧ r = cA n A B S) := by
  intro k
  induction k with
  | zero =>
    intro K b σ A B _ _ _ _ _ hc _
    refine ⟨b, rfl, Nat.le_refl _, fun S hS => ?_, Or.inl rfl⟩
    have := sw_NT2 hS
    omega
  | succ k ih =>
    intro K b σ A B hPB h6 hB hK hKb hc hb
    have hK2 : 2 * K * 2 ^ k ≤ 2 ^ 24 := by
      rw [Nat.pow_succ] at hKb
      rw [Nat.mul_comm 2 K, Nat.mul_assoc, Nat.mul_comm 2 (2 ^ k)]
      exact hKb
    have hKs : K ≤ 2 ^ 24 := Nat.le_trans (Nat.le_mul_of_pos_right K (Nat.pow_pos (by decide))) hKb
    obtain ⟨s, t, v, hs, ht, hne, hAs, hAt, e9, e10, e8, hv, hcut, ev, pB, pA⟩ := p_ph_spec hn hB hK hKs hPB h6 (by omega)
    rw [hc] at e9 e10 e8 pB pA
    obtain ⟨m1, m2⟩ := p_mt_spec hn hs ht hne e9 e10 pB
    have hA' : sw_PA n (sw_rm A t) (p_mt n (p_ph n (k + 1 + 1) σ) 6) := by
      intro x hx
      rw [m2 x hx]
      by_cases c : x = t
      · rw [if_pos c, c, sw_rm_s]; rfl
      · rw [if_neg c, sw_rm_n c]; exact pA x hx
    have hc' : sw_cn n (sw_rm A t) = k + 1 := by
      have := sw_cnt_rm ht hAt
      omega
    have e1 : p_lgs n (k + 2) (nI b, σ) = (nI (if b ≤ v then b else v), p_mt n (p_ph n (k + 1 + 1) σ)) := by
      unfold p_lgs
      dsimp only
      rw [show k + 2 = k + 1 + 1 from rfl, e9, nx_nI (by omega), e8]
      congr 1
      by_cases c : b ≤ v
      · rw [if_pos c, if_pos ((nI_leI (by omega) hv).mpr c)]
      · rw [if_neg c, if_neg (fun h => c ((nI_leI (by omega) hv).mp h))]
    obtain ⟨r, r1, r2, r3, r4⟩ := ih (2 * K) (if b ≤ v then b else v) _ (sw_rm A t) (mB s t B) m1 hA' (mB_s hB) (mB_le hs ht hK) hK2 hc' (by split <;> omega)
    have hbv : r ≤ b ∧ r ≤ v := by
      by_cases c : b ≤ v
      · rw [if_pos c] at r2; omega
      · rw [if_neg c] at r2; omega
    have hrs : sw_rm A t s = true := by rw [sw_rm_n hne]; exact hAs
    refine ⟨r, ?_, hbv.1, fun S hS => ?_, ?_⟩
    · show (p_lgr n k (p_lgs n (k + 2) (nI b, σ))).1 = nI r
      rw [e1]; exact r1
    · by_cases c : S s = S t
      · rw [← sw_cA_mB hB hs ht hne hAs hAt c]
        refine r3 S ?_
        obtain ⟨⟨u, a1, a2, a3⟩, ⟨w, b1, b2, b3⟩⟩ := hS
        have mv : ∀ (x : Nat) (bb : Bool), x < n → A x = true → S x = bb → ∃ y, y < n ∧ sw_rm A t y = true ∧ S y = bb := by
          intro x bb h1 h2 h3
          by_cases e : x = t
          · exact ⟨s, hs, hrs, by rw [c, ← e]; exact h3⟩
          · exact ⟨x, h1, by rw [sw_rm_n e]; exact h2, h3⟩
        exact ⟨mv u true a1 a2 a3, mv w false b1 b2 b3⟩
      · exact Nat.le_trans hbv.2 (hcut S c)
    · rcases r4 with r4 | ⟨S, s1, s2⟩
      · by_cases c : b ≤ v
        · rw [if_pos c] at r4; exact Or.inl r4
        · rw [if_neg c] at r4
          refine Or.inr ⟨fun x => decide (x = t), ⟨⟨t, ht, hAt, decide_eq_true rfl⟩, ⟨s, hs, hAs, decide_eq_false hne⟩⟩, r4.trans ev⟩
      · have hmv : ∀ x, x < n → sw_rm A t x = true → S x = (fun x => if x = t then S s else S x) x := by
          intro x _ h
          have e : ¬ x = t := fun e => by rw [e, sw_rm_s] at h; cases h
          exact (if_neg e).symm
        refine Or.inr ⟨fun x => if x = t then S s else S x, ?_, ?_⟩
        · obtain ⟨⟨u, a1, a2, a3⟩, ⟨w, b1, b2, b3⟩⟩ := s1
          have un : ∀ x, sw_rm A t x = true → ¬ x = t := fun x h e => by rw [e, sw_rm_s] at h; cases h
          exact ⟨⟨u, a1, by rw [sw_rm_n (un u a2)] at a2; exact a2, by rw [← hmv u a1 a2]; exact a3⟩, ⟨w, b1, by rw [sw_rm_n (un w b2)] at b2; exact b2, by rw [← hmv w b1 b2]; exact b3⟩⟩
        · rw [s2, ← sw_cA_mB hB hs ht hne hAs hAt (S := fun x => if x = t then S s else S x) (by rw [if_neg hne, if_pos rfl])]
          exact sw_cA_congr (fun _ _ => rfl) (fun _ _ _ _ _ _ => rfl) hmv
/-- leastOfGroups: the least cut among the groups -/
theorem p_lg_spec {n : Nat} {A : Nat → Bool} {B : Nat → Nat → Nat} {σ : g_St} (hn : n ≤ 9) (hPB : sw_PB n B σ) (h6 : sw_PA n A (σ 6)) (h5 : σ 5 0 = nI (sw_cn n A)) (hB : ∀ x y, x < n → y < n → B x y = B y x) (hK : ∀ x y, x < n → y < n → B x y ≤ 4050) (hcb : ∀ S, cA n A B S < 1000000) : MinOf (NT n A) (cA n A B) (p_lg n σ).1 := by
  have hcn : sw_cn n A ≤ n := sm_ind_le n
  unfold p_lg
  rw [h5]
  by_cases c : 2 ≤ sw_cn n A
  · rw [if_pos (show (2 : Int32) ≤ nI (sw_cn n A) from nI_le (a := 2) c (by omega)), nx_nI (by omega)]
    have hp : 2 ^ (sw_cn n A - 1) ≤ 2 ^ 8 := Nat.pow_le_pow_right (by decide) (by omega)
    obtain ⟨r, r1, r2, r3, r4⟩ := p_lgr_spec hn (sw_cn n A - 1) 4050 1000000 σ A B hPB h6 hB hK (Nat.le_trans (Nat.mul_le_mul_left 4050 hp) (by decide)) (by omega) (Nat.le_refl _)
    have r1 : (p_lgr n (sw_cn n A - 1) (1000000, σ)).1 = nI r := r1
    rcases r4 with r4 | ⟨S, s1, s2⟩
    · obtain ⟨S, hS⟩ := sw_NTex c
      have := r3 S hS
      have := hcb S
      omega
    · exact Or.inr ⟨S, s1, by rw [r1, s2], fun T hT => by rw [← s2]; exact r3 T hT⟩
  · rw [if_neg (show ¬ (2 : Int32) ≤ nI (sw_cn n A) from nI_ge (b := 2) (by omega) (by decide))]
    exact Or.inl ⟨rfl, fun S hS => c (sw_NT2 hS)⟩
end
section
/-! findWay: the distances -/
set_option maxRecDepth 100000
def sw_PR (n : Nat) (R : Nat → Nat → Nat) (f : Nat → Int32) : Prop := ∀ x y, x < n → y < n → f (x * 9 + y) = nI (R x y)
/-- behind index i of the queue, and v vertices at index i -/
def bf_J (n : Nat) (R : Nat → Nat → Nat) (a i v : Nat) (q : Nat × g_St) (d Qf : Nat → Nat) : Prop :=
  g_J n q ∧ (∀ j, j < q.1 → q.2 13 j = nI (Qf j) ∧ Qf j < n ∧ 0 ≤ q.2 12 (Qf j)) ∧ (d a = 0 ∧ 0 ≤ q.2 12 a) ∧ (∀ x, x < n → ¬ 0 ≤ q.2 12 x → d x = 9) ∧ (∀ x, x < n → 0 ≤ q.2 12 x → ∃ j, j < q.1 ∧ Qf j = x ∧ d x ≤ j) ∧ (∀ x, x < n → 0 ≤ q.2 12 x → ¬ x = a → ∃ p, p < n ∧ q.2 12 x = nI p ∧ 0 < R p x ∧ d x = d p + 1 ∧ 0 ≤ q.2 12 p) ∧ (∀ j k, j ≤ k → k < q.1 → d (Qf j) ≤ d (Qf k)) ∧ (i < q.1 → ∀ k, k < q.1 → d (Qf k) ≤ d (Qf i) + 1) ∧ (∀ j y, j < q.1 → y < n → (j < i ∨ (j = i ∧ y < v)) → 0 < R (Qf j) y → 0 ≤ q.2 12 y ∧ d y ≤ d (Qf j) + 1)
def bf_up (f : Nat → Nat) (j x : Nat) : Nat → Nat := fun b => if b = j then x else f b
theorem bf_up_s {f : Nat → Nat} {j x : Nat} : bf_up f j x j = x := if_pos rfl
theorem bf_up_n {f : Nat → Nat} {j x b : Nat} (h : ¬ b = j) : bf_up f j x b = f b := if_neg h
theorem bf_step {n a i v : Nat} {R : Nat → Nat → Nat} {q : Nat × g_St} {d Qf : Nat → Nat} (hn : n ≤ 9) (hRb : ∀ x y, x < n → y < n → R x y < 2 ^ 31) (hR : sw_PR n R (q.2 11)) (ha : a < n) (hv : v < n) (hi : i < q.1) (h : bf_J n R a i v q d Qf) : ∃ d' Qf', bf_J n R a i (v + 1) (p_fwv (nI (Qf i)) v q) d' Qf' ∧ i < (p_fwv (nI (Qf i)) v q).1 ∧ Qf' i = Qf i := by
  obtain ⟨J, hq, ⟨hd0, hc0⟩, h9, h3, h4, h5, h6, h7⟩ := h
  obtain ⟨qi1, qi2, qi3⟩ := hq i hi
  have J' : g_J n (p_fwv (nI (Qf i)) v q) := (p_fwv_J hn hv J ⟨Qf i, qi2, rfl, qi3⟩).1
  by_cases c1 : 0 ≤ q.2 12 v
  · have e : p_fwv (nI (Qf i)) v q = q := by unfold p_fwv; rw [if_pos c1]
    rw [e]
    refine ⟨d, Qf, ⟨J, hq, ⟨hd0, hc0⟩, h9, h3, h4, h5, h6, fun j y hj hy hjy hr => ?_⟩, hi, rfl⟩
    by_cases c2 : j = i ∧ y = v
    · obtain ⟨rfl, rfl⟩ := c2
      refine ⟨c1, ?_⟩
      obtain ⟨k, k1, k2, -⟩ := h3 y hy c1
      rw [← k2]; exact h6 hi k k1
    · exact h7 j y hj hy (by omega) hr
  · by_cases c2 : R (Qf i) v = 0
    · have e : p_fwv (nI (Qf i)) v q = q := by
        unfold p_fwv
        rw [if_neg c1, nx_nI (by omega), hR (Qf i) v qi2 hv, c2, if_pos (by decide)]
      rw [e]
      refine ⟨d, Qf, ⟨J, hq, ⟨hd0, hc0⟩, h9, h3, h4, h5, h6, fun j y hj hy hjy hr => ?_⟩, hi, rfl⟩
      by_cases c3 : j = i ∧ y = v
      · obtain ⟨rfl, rfl⟩ := c3
        omega
      · exact h7 j y hj hy (by omega) hr
    · have e : p_fwv (nI (Qf i)) v q = (q.1 + 1, g_up (g_up q.2 12 v (nI (Qf i))) 13 q.1 (nI v)) := by
        unfold p_fwv
        rw [if_neg c1, nx_nI (by omega), hR (Qf i) v qi2 hv, if_neg (nI_nle (by omega) (hRb _ _ qi2 hv))]
      rw [e] at J' ⊢
      have f12 : ∀ x, (g_up (g_up q.2 12 v (nI (Qf i))) 13 q.1 (nI v)) 12 x = if x = v then nI (Qf i) else q.2 12 x := fun x => rfl
      have f13 : ∀ j, (g_up (g_up q.2 12 v (nI (Qf i))) 13 q.1 (nI v)) 13 j = if j = q.1 then nI v else q.2 13 j := fun x => rfl
      have rn : ∀ x, 0 ≤ q.2 12 x → ¬ x = v := fun x hx e => c1 (by rw [← e]; exact hx)
      have up : ∀ x, 0 ≤ q.2 12 x → 0 ≤ (g_up (g_up q.2 12 v (nI (Qf i))) 13 q.1 (nI v)) 12 x := by
        intro x hx
        rw [f12, if_neg (rn x hx)]; exact hx
      have upv : 0 ≤ (g_up (g_up q.2 12 v (nI (Qf i))) 13 q.1 (nI v)) 12 v := by
        rw [f12, if_pos rfl]; exact nI_pos' (by omega)
      have dn : ∀ x, 0 ≤ q.2 12 x → bf_up d v (d (Qf i) + 1) x = d x := fun x hx => bf_up_n (rn x hx)
      have Qn : ∀ j, j < q.1 → bf_up Qf q.1 v j = Qf j := fun j hj => bf_up_n (by omega)
      have dQ : ∀ j, j < q.1 → bf_up d v (d (Qf i) + 1) (bf_up Qf q.1 v j) = d (Qf j) := fun j hj => by
        rw [Qn j hj]; exact dn _ (hq j hj).2.2
      have dv : bf_up d v (d (Qf i) + 1) v = d (Qf i) + 1 := bf_up_s
      have dQe : bf_up d v (d (Qf i) + 1) (bf_up Qf q.1 v q.1) = d (Qf i) + 1 := by rw [bf_up_s]; exact bf_up_s
      refine ⟨bf_up d v (d (Qf i) + 1), bf_up Qf q.1 v, ⟨J', ?_, ⟨?_, up a hc0⟩, ?_, ?_, ?_, ?_, ?_, ?_⟩, Nat.lt_succ_of_lt hi, Qn i hi⟩
      · intro j hj
        have hj : j < q.1 + 1 := hj
        show (g_up (g_up q.2 12 v (nI (Qf i))) 13 q.1 (nI v)) 13 j = _ ∧ _ ∧ 0 ≤ (g_up (g_up q.2 12 v (nI (Qf i))) 13 q.1 (nI v)) 12 _
        by_cases c : j = q.1
        · subst c
          rw [f13, if_pos rfl, bf_up_s]
          exact ⟨rfl, hv, upv⟩
        · rw [f13, if_neg c, Qn j (by omega)]
          obtain ⟨a1, a2, a3⟩ := hq j (by omega)
          exact ⟨a1, a2, up _ a3⟩
      · rw [dn a hc0]; exact hd0
      · intro x hx h0
        have h0 : ¬ 0 ≤ (g_up (g_up q.2 12 v (nI (Qf i))) 13 q.1 (nI v)) 12 x := h0
        by_cases c : x = v
        · rw [c] at h0; exact absurd upv h0
        · rw [f12, if_neg c] at h0
          rw [bf_up_n c]; exact h9 x hx h0
      · intro x hx h0
        have h0 : 0 ≤ (g_up (g_up q.2 12 v (nI (Qf i))) 13 q.1 (nI v)) 12 x := h0
        by_cases c : x = v
        · subst c
          refine ⟨q.1, Nat.lt_succ_self _, bf_up_s, ?_⟩
          rw [dv]
          obtain ⟨k, k1, k2, k3⟩ := h3 (Qf i) qi2 qi3
          show d (Qf i) + 1 ≤ q.1
          omega
        · rw [f12, if_neg c] at h0
          obtain ⟨k, k1, k2, k3⟩ := h3 x hx h0
          exact ⟨k, Nat.lt_succ_of_lt k1, by rw [Qn k k1]; exact k2, by rw [bf_up_n c]; exact k3⟩
      · intro x hx h0 hxa
        have h0 : 0 ≤ (g_up (g_up q.2 12 v (nI (Qf i))) 13 q.1 (nI v)) 12 x := h0
        show ∃ p, p < n ∧ (g_up (g_up q.2 12 v (nI (Qf i))) 13 q.1 (nI v)) 12 x = nI p ∧ 0 < R p x ∧ bf_up d v (d (Qf i) + 1) x = bf_up d v (d (Qf i) + 1) p + 1 ∧ 0 ≤ (g_up (g_up q.2 12 v (nI (Qf i))) 13 q.1 (nI v)) 12 p
        by_cases c : x = v
        · subst c
          refine ⟨Qf i, qi2, by rw [f12, if_pos rfl], by omega, by rw [dv, dn _ qi3], up _ qi3⟩
        · rw [f12, if_neg c] at h0 ⊢
          obtain ⟨p, p1, p2, p3, p4, p5⟩ := h4 x hx h0 hxa
          exact ⟨p, p1, p2, p3, by rw [bf_up_n c, dn p p5]; exact p4, up p p5⟩
      · intro j k hjk hk
        have hk : k < q.1 + 1 := hk
        by_cases c : k = q.1
        · subst c
          rw [dQe]
          by_cases c3 : j = q.1
          · subst c3; rw [dQe]; exact Nat.le_refl _
          · rw [dQ j (by omega)]; exact h6 hi j (by omega)
        · rw [dQ k (by omega), dQ j (by omega)]; exact h5 j k hjk (by omega)
      · intro _ k hk
        have hk : k < q.1 + 1 := hk
        rw [dQ i hi]
        by_cases c : k = q.1
        · subst c; rw [dQe]; exact Nat.le_refl _
        · rw [dQ k (by omega)]; exact h6 hi k (by omega)
      · intro j y hj hy hjy hr
        have hj : j < q.1 + 1 := hj
        have hj' : j < q.1 := by omega
        show 0 ≤ (g_up (g_up q.2 12 v (nI (Qf i))) 13 q.1 (nI v)) 12 y ∧ _
        rw [dQ j hj']
        rw [Qn j hj'] at hr
        by_cases c : j = i ∧ y = v
        · obtain ⟨rfl, rfl⟩ := c
          exact ⟨upv, by rw [dv]; exact Nat.le_refl _⟩
        · obtain ⟨b1, b2⟩ := h7 j y hj' hy (by omega) hr
          exact ⟨up y b1, by rw [dn y b1]; exact b2⟩
theorem bf_inner {n a i : Nat} {R : Nat → Nat → Nat} {q : Nat × g_St} {d Qf : Nat → Nat} (hn : n ≤ 9) (hRb : ∀ x y, x < n → y < n → R x y < 2 ^ 31) (hR : sw_PR n R (q.2 11)) (ha : a < n) (hi : i < q.1) (h : bf_J n R a i 0 q d Qf) : ∃ d' Qf', bf_J n R a (i + 1) 0 (p_fwo n i q) d' Qf' := by
  have key := lp_ind (f := p_fwv (nI (Qf i))) (fun v r => r.2 11 = q.2 11 ∧ ∃ d' Qf', bf_J n R a i v r d' Qf' ∧ i < r.1 ∧ Qf' i = Qf i) n 0 q ⟨rfl, d, Qf, h, hi, rfl⟩ (fun v r _ hv hr => by
    obtain ⟨e11, d1, Q1, j1, j2, j3⟩ := hr
    refine ⟨by rw [p_fwv_k (by decide) (by decide)]; exact e11, ?_⟩
    rw [← j3]
    exact bf_step hn hRb (by rw [e11]; exact hR) ha (by omega) j2 j1)
  rw [Nat.zero_add] at key
  obtain ⟨-, d1, Q1, ⟨b1, b2, b3, b4, b5, b6, b7, b8, b9⟩, j2, -⟩ := key
  have e : p_fwo n i q = lp (p_fwv (nI (Qf i))) n 0 q := by unfold p_fwo; rw [(h.2.1 i hi).1]
  rw [e]
  refine ⟨d1, Q1, b1, b2, b3, b4, b5, b6, b7, fun h1 k hk => ?_, fun j y hj hy hjy hr => ?_⟩
  · have a1 := b8 j2 k hk
    have a2 := b7 i (i + 1) (by omega) h1
    omega
  · refine b9 j y hj hy ?_ hr
    rcases hjy with hjy | hjy
    · by_cases c : j = i
      · exact Or.inr ⟨c, hy⟩
      · exact Or.inl (by omega)
    · omega
theorem bf_outer {n a : Nat} {R : Nat → Nat → Nat} (hn : n ≤ 9) (hRb : ∀ x y, x < n → y < n → R x y < 2 ^ 31) (ha : a < n) : ∀ (k i : Nat) (q : Nat × g_St) (d Qf : Nat → Nat), i + k = 9 → sw_PR n R (q.2 11) → bf_J n R a i 0 q d Qf → ∃ i' d' Qf', (p_fwl n k i q).1 ≤ i' ∧ bf_J n R a i' 0 (p_fwl n k i q) d' Qf' := by
  intro k
  induction k with
  | zero =>
    intro i q d Qf hik _ h
    have h1 := h.1.1
    have h2 : q.1 ≤ i := by omega
    exact ⟨i, d, Qf, h2, h⟩
  | succ k ih =>
    intro i q d Qf hik hR h
    by_cases c : q.1 ≤ i
    · have e : p_fwl n (k + 1) i q = q := by rw [p_fwl, if_pos c]
      rw [e]
      exact ⟨i, d, Qf, c, h⟩
    · have e : p_fwl n (k + 1) i q = p_fwl n k (i + 1) (p_fwo n i q) := by rw [p_fwl, if_neg c]
      rw [e]
      obtain ⟨d1, Q1, h1⟩ := bf_inner hn hRb hR ha (by omega) h
      refine ih (i + 1) _ d1 Q1 (by omega) ?_ h1
      have e11 : (p_fwo n i q).2 11 = q.2 11 := by unfold p_fwo; exact lp_keep2 (fun i s => p_fwv_k (by decide) (by decide) i s) _ _ _
      rw [e11]; exact hR
theorem p_fw0_at {n a : Nat} {σ : g_St} (hn : n ≤ 9) (ha : a < n) : (∀ j, j < n → p_fw0 n (nI a) σ 12 j = if j = a then nI a else -1) ∧ p_fw0 n (nI a) σ 13 0 = nI a ∧ p_fw0 n (nI a) σ 11 = σ 11 := by
  have hz := p_fwz_at (n := n) (σ := σ)
  refine ⟨fun j hj => ?_, rfl, ?_⟩
  · show upd (lp p_fwz n 0 σ 12) (nx (nI a)) (nI a) j = _
    rw [nx_nI (by omega)]
    by_cases e : j = a
    · rw [if_pos e]; exact if_pos e
    · rw [if_neg e, show upd (lp p_fwz n 0 σ 12) a (nI a) j = lp p_fwz n 0 σ 12 j from if_neg e]; exact hz j hj
  · show g_up (g_up (lp p_fwz n 0 σ) 12 (nx (nI a)) (nI a)) 13 0 (nI a) 11 = σ 11
    rw [g_up_ne (by decide), g_up_ne (by decide), lp_keep (f := p_fwz) (fun i s => g_up_ne (by decide))]
/-- the distances d in the rooms R from a, and where each vertex was come from -/
def bf_C (n : Nat) (R : Nat → Nat → Nat) (a : Nat) (d : Nat → Nat) (cf : Nat → Int32) : Prop :=
  d a = 0 ∧ (∀ x, x < n → d x ≤ 9) ∧ (∀ x y, x < n → y < n → 0 < R x y → d y ≤ d x + 1) ∧ (∀ x y, x < n → y < n → d x < 9 → 0 < R x y → d y < 9) ∧ ∀ x, x < n → d x < 9 → ¬ x = a → nx (cf x) < n ∧ cf x = nI (nx (cf x)) ∧ 0 < R (nx (cf x)) x ∧ d x = d (nx (cf x)) + 1
theorem p_fw_cert {n a b : Nat} {R : Nat → Nat → Nat} {σ : g_St} (hn : n ≤ 9) (hRb : ∀ x y, x < n → y < n → R x y < 2 ^ 31) (hR : sw_PR n R (σ 11)) (ha : a < n) (hb : b < n) : ∃ d, bf_C n R a d ((p_fw n (nI a) (nI b) σ).2 12) ∧ (p_fw n (nI a) (nI b) σ).1 = if d b = 9 then 0 else 1 := by
  obtain ⟨z1, z2, z3⟩ := p_fw0_at (σ := σ) hn ha
  have za : 0 ≤ p_fw0 n (nI a) σ 12 a := by rw [z1 a ha, if_pos rfl]; exact nI_pos' (by omega)
  have zr : ∀ x, x < n → 0 ≤ p_fw0 n (nI a) σ 12 x → x = a := by
    intro x hx h
    rw [z1 x hx] at h
    refine Decidable.byContradiction fun c => ?_
    rw [if_neg c] at h
    exact absurd h (by decide)
  have start : bf_J n R a 0 0 (1, p_fw0 n (nI a) σ) (fun x => if x = a then 0 else 9) (fun _ => a) := by
    refine ⟨p_fw0_J hn ⟨a, ha, rfl⟩, fun j hj => ?_, ⟨if_pos rfl, za⟩, fun x hx h => ?_, fun x hx h => ?_, fun x hx h hxa => absurd (zr x hx h) hxa, fun _ _ _ _ => Nat.le_refl _, fun _ _ _ => Nat.le_succ _, fun j y _ _ h => by omega⟩
    · have : j = 0 := by have : j < 1 := hj; omega
      subst this
      exact ⟨z2, ha, za⟩
    · exact if_neg (fun e => h (by rw [e]; exact za))
    · refine ⟨0, Nat.zero_lt_one, (zr x hx h).symm, ?_⟩
      rw [zr x hx h]
      exact Nat.le_of_eq (if_pos rfl)
  obtain ⟨i, d, Qf, hi, J, hq, ⟨hd0, hc0⟩, h9, h3, h4, h5, h6, h7⟩ := bf_outer hn hRb ha 9 0 _ _ _ rfl (by show sw_PR n R (p_fw0 n (nI a) σ 11); rw [z3]; exact hR) start
  have hend : (p_fwl n 9 0 (1, p_fw0 n (nI a) σ)).1 ≤ n := by have := J.1; omega
  have h8 : ∀ x, x < n → 0 ≤ p_fws n (nI a) σ 12 x → d x < 9 := by
    intro x hx h0
    obtain ⟨j, j1, j2, j3⟩ := h3 x hx h0
    omega
  have h8' : ∀ x, x < n → d x < 9 → 0 ≤ p_fws n (nI a) σ 12 x := by
    intro x hx h0
    refine Decidable.byContradiction fun c => ?_
    have := h9 x hx c
    omega
  refine ⟨d, ⟨hd0, fun x hx => ?_, fun x y hx hy hr => ?_, fun x y hx hy hdx hr => ?_, fun x hx hdx hxa => ?_⟩, ?_⟩
  · by_cases c : 0 ≤ p_fws n (nI a) σ 12 x
    · have := h8 x hx c; omega
    · have := h9 x hx c; omega
  · by_cases c : 0 ≤ p_fws n (nI a) σ 12 x
    · obtain ⟨j, j1, j2, j3⟩ := h3 x hx c
      have := (h7 j y j1 hy (Or.inl (by omega)) (by rw [j2]; exact hr)).2
      rw [j2] at this
      exact this
    · have e1 := h9 x hx c
      by_cases c2 : 0 ≤ p_fws n (nI a) σ 12 y
      · have := h8 y hy c2; omega
      · have := h9 y hy c2; omega
  · obtain ⟨j, j1, j2, j3⟩ := h3 x hx (h8' x hx hdx)
    exact h8 y hy (h7 j y j1 hy (Or.inl (by omega)) (by rw [j2]; exact hr)).1
  · obtain ⟨p, p1, p2, p3, p4, p5⟩ := h4 x hx (h8' x hx hdx) hxa
    show nx (p_fws n (nI a) σ 12 x) < n ∧ p_fws n (nI a) σ 12 x = nI (nx (p_fws n (nI a) σ 12 x)) ∧ 0 < R (nx (p_fws n (nI a) σ 12 x)) x ∧ d x = d (nx (p_fws n (nI a) σ 12 x)) + 1
    have p2 : p_fws n (nI a) σ 12 x = nI p := p2
    rw [p2, nx_nI (by omega)]
    exact ⟨p1, rfl, p3, p4⟩
  · show (if p_fws n (nI a) σ 12 (nx (nI b)) < 0 then (0 : Int32) else 1) = _
    rw [nx_nI (by omega)]
    by_cases c : 0 ≤ p_fws n (nI a) σ 12 b
    · have := h8 b hb c
      rw [if_neg (Int32.not_lt.mpr c), if_neg (by omega)]
    · rw [if_pos (Int32.not_le.mp c), if_pos (h9 b hb c)]
end
section
/-! sendAlong in plain numbers: the way from t back to s -/
set_option maxRecDepth 100000
/-- am goes from u to v -/
def fl_pu (am u v : Nat) (R : Nat → Nat → Nat) (x y : Nat) : Nat := if x = u ∧ y = v then R x y - am else if x = v ∧ y = u then R x y + am else R x y
def fa1 (R : Nat → Nat → Nat) (c : Nat → Nat) (s : Nat) : Nat → Nat → Nat → Nat
  | 0, am, _ => am
  | k + 1, am, v => if v = s then am else fa1 R c s k (if am ≤ R (c v) v then am else R (c v) v) (c v)
def fa2 (am s : Nat) (c : Nat → Nat) : Nat → Nat → (Nat → Nat → Nat) → (Nat → Nat → Nat)
  | 0, _, R => R
  | k + 1, v, R => if v = s then R else fa2 am s c k (c v) (fl_pu am (c v) v R)
/-- x (other than s) is on the way from v back to s -/
def fl_pth (c : Nat → Nat) (s : Nat) : Nat → Nat → Nat → Prop
  | 0, _, _ => False
  | k + 1, v, x => ¬ v = s ∧ (x = v ∨ fl_pth c s k (c v) x)
theorem fa1_spec {R : Nat → Nat → Nat} {c : Nat → Nat} {s : Nat} : ∀ (k am v : Nat), fa1 R c s k am v ≤ am ∧ (∀ x, fl_pth c s k v x → fa1 R c s k am v ≤ R (c x) x) ∧ (fa1 R c s k am v = am ∨ ∃ x, fl_pth c s k v x ∧ fa1 R c s k am v = R (c x) x) := by
  intro k
  induction k with
  | zero => intro am v; exact ⟨Nat.le_refl _, fun x h => h.elim, Or.inl rfl⟩
  | succ k ih =>
    intro am v
    by_cases e : v = s
    · have e1 : fa1 R c s (k + 1) am v = am := by rw [fa1, if_pos e]
      rw [e1]
      exact ⟨Nat.le_refl _, fun x h => absurd e h.1, Or.inl rfl⟩
    · have e1 : fa1 R c s (k + 1) am v = fa1 R c s k (if am ≤ R (c v) v then am else R (c v) v) (c v) := by rw [fa1, if_neg e]
      rw [e1]
      obtain ⟨h1, h2, h3⟩ := ih (if am ≤ R (c v) v then am else R (c v) v) (c v)
      have h4 : (if am ≤ R (c v) v then am else R (c v) v) ≤ am ∧ (if am ≤ R (c v) v then am else R (c v) v) ≤ R (c v) v := by
        split <;> omega
      refine ⟨by omega, fun x hx => ?_, ?_⟩
      · rcases hx.2 with rfl | hx
        · omega
        · exact h2 x hx
      · rcases h3 with h3 | ⟨x, x1, x2⟩
        · by_cases c1 : am ≤ R (c v) v
          · rw [if_pos c1] at h3 ⊢; exact Or.inl h3
          · rw [if_neg c1] at h3 ⊢; exact Or.inr ⟨v, ⟨e, Or.inl rfl⟩, h3⟩
        · exact Or.inr ⟨x, ⟨e, Or.inr x1⟩, x2⟩
/-- the way's vertices -/
def fl_Wy (n s : Nat) (d c : Nat → Nat) : Prop := ∀ x, x < n → d x < 9 → ¬ x = s → c x < n ∧ d x = d (c x) + 1
theorem pth_d {n s : Nat} {d c : Nat → Nat} (H : fl_Wy n s d c) : ∀ (k v x : Nat), v < n → d v < 9 → fl_pth c s k v x → x < n ∧ d x ≤ d v ∧ ¬ x = s := by
  intro k
  induction k with
  | zero => intro v x _ _ h; exact h.elim
  | succ k ih =>
    intro v x hv hd h
    obtain ⟨h1, h2⟩ := h
    obtain ⟨a1, a2⟩ := H v hv hd h1
    rcases h2 with rfl | h2
    · exact ⟨hv, Nat.le_refl _, h1⟩
    · obtain ⟨b1, b2, b3⟩ := ih (c v) x a1 (by omega) h2
      exact ⟨b1, by omega, b3⟩
theorem ds_upd2 (n u v : Nat) (f g : Nat → Nat → Nat) (hu : u < n) (hv : v < n) (hg : ∀ x y, x < n → y < n → ¬ (x = u ∧ y = v) → ¬ (x = v ∧ y = u) → g x y = f x y) (hne : ¬ u = v) : ds n g + f u v + f v u = ds n f + g u v + g v u := by
  have e : ds n (fun x y => g x y + ((if x = u ∧ y = v then f x y else 0) + (if x = v ∧ y = u then f x y else 0))) = ds n (fun x y => f x y + ((if x = u ∧ y = v then g x y else 0) + (if x = v ∧ y = u then g x y else 0))) := by
    refine ds_congr n (fun x y hx hy => ?_)
    by_cases c1 : x = u ∧ y = v
    · rw [if_pos c1, if_pos c1, if_neg (fun h => hne (c1.1.symm.trans h.1)), if_neg (fun h => hne (c1.1.symm.trans h.1))]; omega
    · rw [if_neg c1, if_neg c1]
      by_cases c2 : x = v ∧ y = u
      · rw [if_pos c2, if_pos c2]; omega
      · rw [if_neg c2, if_neg c2, hg x y hx hy c1 c2]
  rw [ds_add, ds_add, ds_add, ds_add, ds_cell n u v (fun x y => f x y) hu hv, ds_cell n v u (fun x y => f x y) hv hu, ds_cell n u v (fun x y => g x y) hu hv, ds_cell n v u (fun x y => g x y) hv hu] at e
  have e1 : ds n (fun x y => g x y) = ds n g := rfl
  have e2 : ds n (fun x y => f x y) = ds n f := rfl
  omega
/-- the whole cut -/
def cwt (n : Nat) (R : Nat → Nat → Nat) (S : Nat → Bool) : Nat := ds n (fun x y => if S x = true ∧ S y = false then R x y else 0)
theorem cwt_pu {n am u v : Nat} {R : Nat → Nat → Nat} (hu : u < n) (hv : v < n) (hne : ¬ u = v) (ham : am ≤ R u v) (S : Nat → Bool) : cwt n (fl_pu am u v R) S + (if S u = true ∧ S v = false then am else 0) = cwt n R S + (if S v = true ∧ S u = false then am else 0) := by
  have e := ds_upd2 n u v (fun x y => if S x = true ∧ S y = false then R x y else 0) (fun x y => if S x = true ∧ S y = false then fl_pu am u v R x y else 0) hu hv (fun x y _ _ h1 h2 => by
    try dsimp only
    unfold fl_pu
    rw [if_neg h1, if_neg h2]) hne
  try dsimp only at e
  have p1 : fl_pu am u v R u v = R u v - am := if_pos ⟨rfl, rfl⟩
  have p2 : fl_pu am u v R v u = R v u + am := by
    unfold fl_pu
    rw [if_neg (fun h => hne h.1.symm), if_pos ⟨rfl, rfl⟩]
  rw [p1, p2] at e
  have e1 : cwt n (fl_pu am u v R) S = ds n (fun x y => if S x = true ∧ S y = false then fl_pu am u v R x y else 0) := rfl
  have e2 : cwt n R S = ds n (fun x y => if S x = true ∧ S y = false then R x y else 0) := rfl
  rw [e1, e2]
  generalize ds n (fun x y => if S x = true ∧ S y = false then fl_pu am u v R x y else 0) = X at e ⊢
  generalize ds n (fun x y => if S x = true ∧ S y = false then R x y else 0) = Y at e ⊢
  rcases Bool.eq_false_or_eq_true (S u) with a | a <;> rcases Bool.eq_false_or_eq_true (S v) with b | b <;> rw [a, b] at e ⊢ <;> simp at e ⊢ <;> omega
/-- what sending does: the way's rooms, the others', the cuts -/
theorem fa2_spec {n s am : Nat} {d c : Nat → Nat} (H : fl_Wy n s d c) : ∀ (k v : Nat) (R : Nat → Nat → Nat), v < n → d v < 9 → d v ≤ k → (∀ x, fl_pth c s k v x → am ≤ R (c x) x) →
    (∀ x, fl_pth c s k v x → fa2 am s c k v R (c x) x + am = R (c x) x ∧ fa2 am s c k v R x (c x) = R x (c x) + am) ∧ (∀ x y, ¬ (fl_pth c s k v y ∧ x = c y) → ¬ (fl_pth c s k v x ∧ y = c x) → fa2 am s c k v R x y = R x y) ∧ ∀ S : Nat → Bool, S s = true → cwt n (fa2 am s c k v R) S + (if S v = true then 0 else am) = cwt n R S := by
  intro k
  induction k with
  | zero =>
    intro v R hv hd hk _
    have e : v = s := Decidable.byContradiction fun c1 => by have := (H v hv hd c1).2; omega
    refine ⟨fun x h => h.elim, fun x y _ _ => rfl, fun S hS => ?_⟩
    rw [e, if_pos hS]; rfl
  | succ k ih =>
    intro v R hv hd hk ham
    by_cases e : v = s
    · have e1 : fa2 am s c (k + 1) v R = R := by rw [fa2, if_pos e]
      rw [e1]
      refine ⟨fun x h => absurd e h.1, fun x y _ _ => rfl, fun S hS => ?_⟩
      rw [e, if_pos hS]; rfl
    · have e1 : fa2 am s c (k + 1) v R = fa2 am s c k (c v) (fl_pu am (c v) v R) := by rw [fa2, if_neg e]
      rw [e1]
      obtain ⟨hu, hdu⟩ := H v hv hd e
      have hne : ¬ c v = v := fun e2 => by rw [e2] at hdu; omega
      have hav : am ≤ R (c v) v := ham v ⟨e, Or.inl rfl⟩
      -- a later vertex of the way
      have lt : ∀ x, fl_pth c s k (c v) x → x < n ∧ d x < d v ∧ d x = d (c x) + 1 := by
        intro x hx
        obtain ⟨a1, a2, a3⟩ := pth_d H k (c v) x hu (by omega) hx
        exact ⟨a1, by omega, (H x a1 (by omega) a3).2⟩
      have n1 : ∀ x, fl_pth c s k (c v) x → fl_pu am (c v) v R (c x) x = R (c x) x := by
        intro x hx
        obtain ⟨a1, a2, a3⟩ := lt x hx
        unfold fl_pu
        rw [if_neg (fun h => by rw [h.2] at a2; omega), if_neg (fun h => by rw [h.1] at a3; omega)]
      have n2 : ∀ x, fl_pth c s k (c v) x → fl_pu am (c v) v R x (c x) = R x (c x) := by
        intro x hx
        obtain ⟨a1, a2, a3⟩ := lt x hx
        unfold fl_pu
        rw [if_neg (fun h => by rw [h.2] at a3; omega), if_neg (fun h => by rw [h.1] at a2; omega)]
      obtain ⟨i1, i2, i3⟩ := ih (c v) (fl_pu am (c v) v R) hu (by omega) (by omega) (fun x hx => by rw [n1 x hx]; exact ham x ⟨e, Or.inr hx⟩)
      have q1 : ¬ (fl_pth c s k (c v) v ∧ c v = c v) := fun h => by have := (lt v h.1).2.1; omega
      have q2 : ¬ (fl_pth c s k (c v) (c v) ∧ v = c (c v)) := fun h => by
        have := (lt (c v) h.1).2.2
        rw [← h.2] at this
        omega
      refine ⟨fun x hx => ?_, fun x y h1 h2 => ?_, fun S hS => ?_⟩
      · rcases hx.2 with rfl | hx
        · rw [i2 (c x) x q1 q2, i2 x (c x) q2 q1]
          unfold fl_pu
          rw [if_pos ⟨rfl, rfl⟩, if_neg (fun h => hne h.1.symm), if_pos ⟨rfl, rfl⟩]
          exact ⟨by omega, rfl⟩
        · rw [(i1 x hx).2, ← n1 x hx, n2 x hx]
          exact ⟨(i1 x hx).1, rfl⟩
      · rw [i2 x y (fun h => h1 ⟨⟨e, Or.inr h.1⟩, h.2⟩) (fun h => h2 ⟨⟨e, Or.inr h.1⟩, h.2⟩)]
        unfold fl_pu
        rw [if_neg (fun h => h1 ⟨⟨e, Or.inl h.2⟩, by rw [h.2]; exact h.1⟩), if_neg (fun h => h2 ⟨⟨e, Or.inl h.1⟩, by rw [h.1]; exact h.2⟩)]
      · have a1 := i3 S hS
        have a2 := cwt_pu hu hv hne hav S
        rcases Bool.eq_false_or_eq_true (S (c v)) with a | a <;> rcases Bool.eq_false_or_eq_true (S v) with b | b <;> rw [a] at a1 a2 <;> rw [b] at a2 ⊢ <;> simp at a1 a2 ⊢ <;> omega
/-- the picture: the amount -/
theorem p_sa1_at {n a : Nat} {R : Nat → Nat → Nat} {d : Nat → Nat} {σ : g_St} (hn : n ≤ 9) (ha : a < n) (hRb : ∀ x y, x < n → y < n → R x y < 2 ^ 31) (hR : sw_PR n R (σ 11)) (hC : bf_C n R a d (σ 12)) : ∀ (k am v : Nat), v < n → d v < 9 → am < 2 ^ 31 → p_sa1 σ (nI a) k (nI am, nI v) = nI (fa1 R (fun x => nx (σ 12 x)) a k am v) := by
  intro k
  induction k with
  | zero => intro am v _ _ _; rfl
  | succ k ih =>
    intro am v hv hd ham
    by_cases e : v = a
    · rw [p_sa1, fa1, if_pos e, if_pos (by rw [e])]
    · obtain ⟨h1, h2, h3, h4⟩ := hC.2.2.2.2 v hv hd e
      have hne : ¬ nI v = nI a := fun h => e ((nI_eq (by omega) (by omega)).mp h)
      rw [p_sa1, fa1, if_neg e, if_neg hne]
      dsimp only
      rw [nx_nI (show v < 2 ^ 31 by omega), hR _ v h1 hv]
      have hb := hRb _ v h1 hv
      have e2 : (if nI am ≤ nI (R (nx (σ 12 v)) v) then nI am else nI (R (nx (σ 12 v)) v)) = nI (if am ≤ R (nx (σ 12 v)) v then am else R (nx (σ 12 v)) v) := by
        by_cases c : am ≤ R (nx (σ 12 v)) v
        · rw [if_pos c, if_pos ((nI_leI ham hb).mpr c)]
        · rw [if_neg c, if_neg (fun h => c ((nI_leI ham hb).mp h))]
      rw [e2]
      have e3 : σ 12 v = nI (nx (σ 12 v)) := h2
      have := ih (if am ≤ R (nx (σ 12 v)) v then am else R (nx (σ 12 v)) v) (nx (σ 12 v)) h1 (by omega) (by split <;> omega)
      rw [← e3] at this
      exact this
/-- the picture: the rooms -/
theorem p_sa2_at {n a am : Nat} {d : Nat → Nat} {cf : Nat → Int32} (hn : n ≤ 9) (ha : a < n) (hC : ∀ x, x < n → d x < 9 → ¬ x = a → nx (cf x) < n ∧ cf x = nI (nx (cf x)) ∧ d x = d (nx (cf x)) + 1) : ∀ (k v : Nat) (R : Nat → Nat → Nat) (σ : g_St), v < n → d v < 9 → σ 12 = cf → sw_PR n R (σ 11) → (∀ x, fl_pth (fun x => nx (cf x)) a k v x → am ≤ R (nx (cf x)) x) → sw_PR n (fa2 am a (fun x => nx (cf x)) k v R) (p_sa2 (nI am) (nI a) k (nI v) σ 11) := by
  have H : fl_Wy n a d (fun x => nx (cf x)) := fun x h1 h2 h3 => ⟨(hC x h1 h2 h3).1, (hC x h1 h2 h3).2.2⟩
  intro k
  induction k with
  | zero => intro v R σ _ _ _ hR _; exact hR
  | succ k ih =>
    intro v R σ hv hd h12 hR ham
    by_cases e : v = a
    · rw [p_sa2, fa2, if_pos e, if_pos (by rw [e])]; exact hR
    · obtain ⟨h1, h2, h4⟩ := hC v hv hd e
      have hne : ¬ nI v = nI a := fun h => e ((nI_eq (by omega) (by omega)).mp h)
      have hcv : ¬ nx (cf v) = v := fun e2 => by rw [e2] at h4; omega
      have hav : am ≤ R (nx (cf v)) v := ham v ⟨e, Or.inl rfl⟩
      rw [p_sa2, fa2, if_neg e, if_neg hne, nx_nI (show v < 2 ^ 31 by omega), h12]
      have u1 : p_sa2u (nI am) (nI v) σ = g_up σ 11 (nx (cf v) * 9 + v) (nI (R (nx (cf v)) v - am)) := by
        unfold p_sa2u
        rw [nx_nI (show v < 2 ^ 31 by omega), h12, hR _ v h1 hv, pk_sub hav]
      have u12 : g_up σ 11 (nx (cf v) * 9 + v) (nI (R (nx (cf v)) v - am)) 12 = cf := by rw [g_up_ne (by decide)]; exact h12
      have u2 : p_sa2v (nI am) (nI v) (p_sa2u (nI am) (nI v) σ) = g_up (g_up σ 11 (nx (cf v) * 9 + v) (nI (R (nx (cf v)) v - am))) 11 (v * 9 + nx (cf v)) (nI (R v (nx (cf v)) + am)) := by
        rw [u1]
        unfold p_sa2v
        rw [nx_nI (show v < 2 ^ 31 by omega), u12, g_up_n (by omega), hR v _ hv h1, nI_add]
      rw [u2]
      have e3 : cf v = nI (nx (cf v)) := h2
      have lt : ∀ x, fl_pth (fun x => nx (cf x)) a k (nx (cf v)) x → x < n ∧ d x < d v ∧ d x = d (nx (cf x)) + 1 := by
        intro x hx
        obtain ⟨a1, a2, a3⟩ := pth_d H k (nx (cf v)) x h1 (by omega) hx
        exact ⟨a1, by omega, (H x a1 (by omega) a3).2⟩
      have := ih (nx (cf v)) (fl_pu am (nx (cf v)) v R) (g_up (g_up σ 11 (nx (cf v) * 9 + v) (nI (R (nx (cf v)) v - am))) 11 (v * 9 + nx (cf v)) (nI (R v (nx (cf v)) + am))) h1 (by omega) (by rw [g_up_ne (by decide)]; exact u12) (fun x y hx hy => by
        unfold fl_pu
        by_cases c1 : x = nx (cf v) ∧ y = v
        · obtain ⟨rfl, rfl⟩ := c1
          rw [if_pos ⟨rfl, rfl⟩, g_up_n (by omega), g_up_s]
        · rw [if_neg c1]
          by_cases c2 : x = v ∧ y = nx (cf v)
          · obtain ⟨rfl, rfl⟩ := c2
            rw [if_pos ⟨rfl, rfl⟩, g_up_s]
          · rw [if_neg c2, g_up_n (by omega), g_up_n (by omega)]; exact hR x y hx hy) (fun x hx => by
        obtain ⟨a1, a2, a3⟩ := lt x hx
        have e4 : fl_pu am (nx (cf v)) v R (nx (cf x)) x = R (nx (cf x)) x := by
          unfold fl_pu
          rw [if_neg (fun h => by rw [h.2] at a2; omega), if_neg (fun h => by rw [h.1] at a3; omega)]
        rw [e4]; exact ham x ⟨e, Or.inr hx⟩)
      rw [← e3] at this
      exact this
end
section
/-! leastBetween: sent = the least cut; every way lifts the potential -/
set_option maxRecDepth 100000
def fl_pr (R : Nat → Nat → Nat) (d : Nat → Nat) (x y : Nat) : Nat := if 0 < R x y then (if 0 < R y x then (if d x ≤ d y then d x else d y) else d x) else (if 0 < R y x then d y else 0)
theorem pr_s (R : Nat → Nat → Nat) (d : Nat → Nat) (x y : Nat) : fl_pr R d x y = fl_pr R d y x := by
  unfold fl_pr
  by_cases c1 : 0 < R x y <;> by_cases c2 : 0 < R y x <;> simp only [c1, c2, if_true, if_false, ite_true, ite_false]
  split <;> split <;> omega
theorem pr_le9 {R : Nat → Nat → Nat} {d : Nat → Nat} {x y : Nat} (hx : d x ≤ 9) (hy : d y ≤ 9) : fl_pr R d x y ≤ 9 := by
  unfold fl_pr
  split
  · split
    · split <;> omega
    · omega
  · split <;> omega
theorem pr_mono {R R' : Nat → Nat → Nat} {d d' : Nat → Nat} {x y : Nat} (h1 : R' x y = R x y) (h2 : R' y x = R y x) (hx : d x ≤ d' x) (hy : d y ≤ d' y) : fl_pr R d x y ≤ fl_pr R' d' x y := by
  unfold fl_pr
  rw [h1, h2]
  split
  · split
    · split <;> split <;> omega
    · omega
  · split <;> omega
theorem sm_lt {f g : Nat → Nat} : ∀ n, (∀ i, i < n → f i ≤ g i) → (∃ i, i < n ∧ f i < g i) → sm n f < sm n g := by
  intro n
  induction n with
  | zero => rintro _ ⟨i, h, -⟩; omega
  | succ n ih =>
    rintro h ⟨i, h1, h2⟩
    show sm n f + f n < sm n g + g n
    have a1 := h n (by omega)
    by_cases e : i = n
    · subst e
      have := sm_le i (fun j hj => h j (by omega))
      omega
    · have := ih (fun j hj => h j (by omega)) ⟨i, by omega, h2⟩
      omega
theorem hs_lt {f g : Nat → Nat → Nat} (n : Nat) (h : ∀ i j, i < n → j < i → f i j ≤ g i j) (hx : ∃ i j, i < n ∧ j < i ∧ f i j < g i j) : hs n f < hs n g := by
  obtain ⟨i, j, h1, h2, h3⟩ := hx
  exact sm_lt n (fun i hi => sm_le i (fun j hj => h i j hi hj)) ⟨i, h1, sm_lt i (fun j hj => h i j h1 hj) ⟨j, h2, h3⟩⟩
theorem hs_324 {n : Nat} {f : Nat → Nat → Nat} (hn : n ≤ 9) (h : ∀ i j, i < n → j < i → f i j ≤ 9) : hs n f ≤ 324 := by
  have h1 : hs n f ≤ hs n (fun _ _ => 9) := hs_le n h
  have h2 : ∀ m, m ≤ 9 → hs m (fun _ _ => 9) ≤ 324 := by decide
  exact Nat.le_trans h1 (h2 n hn)
/-- the distances never fall -/
theorem cert_mono {n a : Nat} {R R' : Nat → Nat → Nat} {d d' : Nat → Nat} {cf cf' : Nat → Int32} (hC : bf_C n R a d cf) (hC' : bf_C n R' a d' cf') (hf : ∀ x y, x < n → y < n → 0 < R' x y → d y ≤ d x + 1) : ∀ x, x < n → d x ≤ d' x := by
  have key : ∀ m x, x < n → d' x = m → d x ≤ m := by
    intro m
    induction m with
    | zero =>
      intro x hx e
      by_cases c : x = a
      · rw [c, hC.1]; exact Nat.le_refl _
      · have := (hC'.2.2.2.2 x hx (by omega) c).2.2.2; omega
    | succ m ih =>
      intro x hx e
      by_cases c : x = a
      · rw [c, hC.1]; exact Nat.zero_le _
      · by_cases c9 : d' x < 9
        · obtain ⟨p1, p2, p3, p4⟩ := hC'.2.2.2.2 x hx c9 c
          have := ih (nx (cf' x)) p1 (by omega)
          have := hf _ x p1 hx p3
          omega
        · have := hC.2.1 x hx
          omega
  exact fun x hx => key (d' x) x hx rfl
theorem p_lbl_spec {n a b K : Nat} {B : Nat → Nat → Nat} (hn : n ≤ 9) (ha : a < n) (hb : b < n) (hab : ¬ a = b) (hK : ∀ x y, x < n → y < n → B x y ≤ K) (hKb : K ≤ 10000) : ∀ (k : Nat) (sent : Nat) (σ : g_St) (R : Nat → Nat → Nat) (d : Nat → Nat) (more : Int32), sw_PR n R (σ 11) → bf_C n R a d (σ 12) → more = (if d b = 9 then 0 else 1) → (∀ x y, x < n → y < n → R x y + R y x = B x y + B y x) → (∀ S : Nat → Bool, S a = true → S b = false → cwt n R S + sent = cwt n B S) → 324 < hs n (fl_pr R d) + k →
    ∃ T : Nat → Bool, T a = true ∧ T b = false ∧ (p_lbl n (nI a) (nI b) k (nI sent, more, σ)).1 = nI (cwt n B T) ∧ ∀ S : Nat → Bool, S a = true → S b = false → cwt n B T ≤ cwt n B S := by
  intro k
  induction k with
  | zero =>
    intro sent σ R d more _ hC _ _ _ hp
    have := hs_324 (n := n) (f := fl_pr R d) hn (fun i j hi hj => pr_le9 (hC.2.1 i hi) (hC.2.1 j (by omega)))
    omega
  | succ k ih =>
    intro sent σ R d more hR hC hm hpair hcut hp
    have hRb : ∀ x y, x < n → y < n → R x y ≤ 20000 := by
      intro x y hx hy
      have a1 := hpair x y hx hy
      have a2 := hK x y hx hy
      have a3 := hK y x hy hx
      omega
    by_cases c : d b = 9
    · rw [if_pos c] at hm
      have e : (p_lbl n (nI a) (nI b) (k + 1) (nI sent, more, σ)).1 = nI sent := by
        rw [p_lbl, if_pos hm]
      rw [e]
      have h0 : cwt n R (fun x => decide (d x < 9)) = 0 := ds_zero n (fun x y hx hy => by
        by_cases c2 : decide (d x < 9) = true ∧ decide (d y < 9) = false
        · rw [if_pos c2]
          have h1 := of_decide_eq_true c2.1
          have h2 := of_decide_eq_false c2.2
          exact Decidable.byContradiction fun hne => h2 (hC.2.2.2.1 x y hx hy h1 (by omega))
        · exact if_neg c2)
      have ta : decide (d a < 9) = true := decide_eq_true (by rw [hC.1]; decide)
      have tb : decide (d b < 9) = false := decide_eq_false (by omega)
      have hT := hcut (fun x => decide (d x < 9)) ta tb
      rw [h0, Nat.zero_add] at hT
      refine ⟨fun x => decide (d x < 9), ta, tb, by rw [← hT], fun S h1 h2 => ?_⟩
      have := hcut S h1 h2
      omega
    · rw [if_neg c] at hm
      have hdb : d b < 9 := by have := hC.2.1 b hb; omega
      have hba : ¬ b = a := fun e => hab e.symm
      have hRb' : ∀ x y, x < n → y < n → R x y < 2 ^ 31 := fun x y hx hy => by have := hRb x y hx hy; omega
      have H : fl_Wy n a d (fun x => nx (σ 12 x)) := fun x h1 h2 h3 => ⟨(hC.2.2.2.2 x h1 h2 h3).1, (hC.2.2.2.2 x h1 h2 h3).2.2.2⟩
      obtain ⟨f1, f2, f3⟩ := fa1_spec (R := R) (c := fun x => nx (σ 12 x)) (s := a) 9 1000000 b
      have eam : p_saa (nI a) (nI b) σ = nI (fa1 R (fun x => nx (σ 12 x)) a 9 1000000 b) := p_sa1_at hn ha hRb' hR hC 9 1000000 b hb hdb (by decide)
      generalize fa1 R (fun x => nx (σ 12 x)) a 9 1000000 b = am at f1 f2 f3 eam
      have pd : ∀ x, fl_pth (fun x => nx (σ 12 x)) a 9 b x → x < n ∧ nx (σ 12 x) < n ∧ d x = d (nx (σ 12 x)) + 1 ∧ 0 < R (nx (σ 12 x)) x := by
        intro x hx
        obtain ⟨a1, a2, a3⟩ := pth_d H 9 b x hb hdb hx
        obtain ⟨b1, b2, b3, b4⟩ := hC.2.2.2.2 x a1 (by omega) a3
        exact ⟨a1, b1, b4, b3⟩
      have hbp : fl_pth (fun x => nx (σ 12 x)) a 9 b b := ⟨hba, Or.inl rfl⟩
      obtain ⟨xs, xs1, xs2⟩ : ∃ x, fl_pth (fun x => nx (σ 12 x)) a 9 b x ∧ am = R (nx (σ 12 x)) x := by
        rcases f3 with f3 | f3
        · have a1 := f2 b hbp
          have a2 := hRb _ b (pd b hbp).2.1 hb
          try dsimp only at a1
          omega
        · exact f3
      have ham1 : 0 < am := by rw [xs2]; exact (pd xs xs1).2.2.2
      obtain ⟨g1, g2, g3⟩ := fa2_spec (am := am) H 9 b R hb hdb (by omega) f2
      have hPR := p_sa2_at (am := am) (cf := σ 12) hn ha (fun x h1 h2 h3 => ⟨(hC.2.2.2.2 x h1 h2 h3).1, (hC.2.2.2.2 x h1 h2 h3).2.1, (hC.2.2.2.2 x h1 h2 h3).2.2.2⟩) 9 b R σ hb hdb rfl hR f2
      generalize fa2 am a (fun x => nx (σ 12 x)) 9 b R = R' at g1 g2 g3 hPR
      have esa : p_sa (nI a) (nI b) σ = (nI am, p_sa2 (nI am) (nI a) 9 (nI b) σ) := by unfold p_sa; rw [eam]
      -- what became of a pair
      have tri : ∀ x y, x < n → y < n → (R' x y = R x y ∧ R' y x = R y x) ∨ (fl_pth (fun x => nx (σ 12 x)) a 9 b y ∧ x = nx (σ 12 y)) ∨ (fl_pth (fun x => nx (σ 12 x)) a 9 b x ∧ y = nx (σ 12 x)) := by
        intro x y _ _
        by_cases c1 : fl_pth (fun x => nx (σ 12 x)) a 9 b y ∧ x = nx (σ 12 y)
        · exact Or.inr (Or.inl c1)
        · by_cases c2 : fl_pth (fun x => nx (σ 12 x)) a 9 b x ∧ y = nx (σ 12 x)
          · exact Or.inr (Or.inr c2)
          · exact Or.inl ⟨g2 x y c1 c2, g2 y x c2 c1⟩
      have hpair' : ∀ x y, x < n → y < n → R' x y + R' y x = B x y + B y x := by
        intro x y hx hy
        rw [← hpair x y hx hy]
        rcases tri x y hx hy with ⟨h1, h2⟩ | ⟨h1, h2⟩ | ⟨h1, h2⟩
        · rw [h1, h2]
        · subst h2
          have := g1 y h1
          try dsimp only at this
          omega
        · subst h2
          have := g1 x h1
          try dsimp only at this
          omega
      have hRb2 : ∀ x y, x < n → y < n → R' x y < 2 ^ 31 := by
        intro x y hx hy
        have a1 := hpair' x y hx hy
        have a2 := hK x y hx hy
        have a3 := hK y x hy hx
        omega
      obtain ⟨d', hC', hm'⟩ := p_fw_cert (σ := p_sa2 (nI am) (nI a) 9 (nI b) σ) hn hRb2 hPR ha hb
      have hmono : ∀ x, x < n → d x ≤ d' x := cert_mono hC hC' (fun x y hx hy hr => by
        rcases tri x y hx hy with ⟨h1, h2⟩ | ⟨h1, h2⟩ | ⟨h1, h2⟩
        · rw [h1] at hr; exact hC.2.2.1 x y hx hy hr
        · subst h2
          have := (pd y h1).2.2.1
          omega
        · subst h2
          have := (pd x h1).2.2.1
          omega)
      -- one step of the way
      have one : ∀ y, fl_pth (fun x => nx (σ 12 x)) a 9 b y → fl_pr R d (nx (σ 12 y)) y ≤ fl_pr R' d' (nx (σ 12 y)) y ∧ (R' (nx (σ 12 y)) y = 0 → fl_pr R d (nx (σ 12 y)) y < fl_pr R' d' (nx (σ 12 y)) y) := by
        intro y hy
        obtain ⟨a1, a2, a3, a4⟩ := pd y hy
        have b1 := g1 y hy
        try dsimp only at b1
        have m1 := hmono y a1
        have m2 := hmono _ a2
        have e1 : fl_pr R d (nx (σ 12 y)) y = d (nx (σ 12 y)) := by
          unfold fl_pr
          rw [if_pos a4]
          split
          · rw [if_pos (by omega)]
          · rfl
        have r2 : 0 < R' y (nx (σ 12 y)) := by omega
        rw [e1]
        unfold fl_pr
        rw [if_pos r2, if_pos r2]
        by_cases c1 : 0 < R' (nx (σ 12 y)) y
        · rw [if_pos c1]
          refine ⟨?_, fun h => by omega⟩
          split <;> omega
        · rw [if_neg c1]
          exact ⟨by omega, fun _ => by omega⟩
      have hle : ∀ x y, x < n → y < n → fl_pr R d x y ≤ fl_pr R' d' x y := by
        intro x y hx hy
        rcases tri x y hx hy with ⟨h1, h2⟩ | ⟨h1, h2⟩ | ⟨h1, h2⟩
        · exact pr_mono h1 h2 (hmono x hx) (hmono y hy)
        · subst h2; exact (one y h1).1
        · subst h2
          rw [pr_s R d, pr_s R' d']
          exact (one x h1).1
      have hlt : hs n (fl_pr R d) < hs n (fl_pr R' d') := by
        refine hs_lt n (fun i j hi hj => hle i j hi (by omega)) ?_
        obtain ⟨a1, a2, a3, a4⟩ := pd xs xs1
        have b1 := g1 xs xs1
        try dsimp only at b1
        have b2 := (one xs xs1).2 (by omega)
        rcases Nat.lt_trichotomy (nx (σ 12 xs)) xs with h | h | h
        · exact ⟨xs, _, a1, h, by rw [pr_s R d, pr_s R' d']; exact b2⟩
        · rw [h] at a3; omega
        · exact ⟨_, xs, a2, h, b2⟩
      have e : p_lbl n (nI a) (nI b) (k + 1) (nI sent, more, σ) = p_lbl n (nI a) (nI b) k (nI (sent + am), (p_fw n (nI a) (nI b) (p_sa2 (nI am) (nI a) 9 (nI b) σ)).1, (p_fw n (nI a) (nI b) (p_sa2 (nI am) (nI a) 9 (nI b) σ)).2) := by
        rw [p_lbl, if_neg (by dsimp only; rw [hm]; decide)]
        try dsimp only
        rw [esa]
        try dsimp only
        rw [nI_add]
      rw [e]
      have e11 : (p_fw n (nI a) (nI b) (p_sa2 (nI am) (nI a) 9 (nI b) σ)).2 11 = p_sa2 (nI am) (nI a) 9 (nI b) σ 11 := p_fw_k (by decide) (by decide) _
      refine ih (sent + am) _ R' d' _ (by rw [e11]; exact hPR) hC' hm' hpair' (fun S h1 h2 => ?_) (by omega)
      have a1 := g3 S h1
      rw [h2, if_neg (by decide)] at a1
      have a2 := hcut S h1 h2
      omega
theorem p_lbz_at {σ : g_St} : (∀ k, ¬ k = 11 → lp p_lbz 81 0 σ k = σ k) ∧ ∀ j, j < 81 → lp p_lbz 81 0 σ 11 j = σ 4 j := by
  have hk : ∀ k, ¬ k = 11 → ∀ c i s, lp p_lbz c i s k = s k := fun k hk c i s => lp_keep (f := p_lbz) (fun i s => g_up_ne hk) c i s
  refine ⟨fun k h => hk k h _ _ _, ?_⟩
  have key := lp_ind (f := p_lbz) (fun i s => s 4 = σ 4 ∧ ∀ j, j < i → s 11 j = σ 4 j) 81 0 σ ⟨rfl, fun j h => by omega⟩ (fun i s _ _ h => by
    refine ⟨by unfold p_lbz; rw [g_up_ne (by decide)]; exact h.1, fun j hj => ?_⟩
    unfold p_lbz
    by_cases e : j = i
    · subst e; rw [g_up_s, h.1]
    · rw [g_up_n e]; exact h.2 j (by omega))
  rw [Nat.zero_add] at key
  exact key.2
/-- leastBetween of two groups a, b -/
theorem p_lb_spec {n u v a b K : Nat} {B : Nat → Nat → Nat} {σ : g_St} (hn : n ≤ 9) (ha : a < n) (hb : b < n) (hab : ¬ a = b) (hu : σ 3 u = nI a) (hv : σ 3 v = nI b) (hPB : sw_PB n B σ) (hK : ∀ x y, x < n → y < n → B x y ≤ K) (hKb : K ≤ 10000) :
    ∃ T : Nat → Bool, T a = true ∧ T b = false ∧ (p_lb n u v σ).1 = nI (cwt n B T) ∧ ∀ S : Nat → Bool, S a = true → S b = false → cwt n B T ≤ cwt n B S := by
  have hne : ¬ nI a = nI b := fun h => hab ((nI_eq (by omega) (by omega)).mp h)
  obtain ⟨z1, z2⟩ := p_lbz_at (σ := σ)
  have hPR : sw_PR n B (lp p_lbz 81 0 σ 11) := by
    intro x y hx hy
    rw [z2 _ (by omega)]; exact hPB x y hx hy
  obtain ⟨d, hC, hm⟩ := p_fw_cert (σ := lp p_lbz 81 0 σ) hn (fun x y hx hy => by have := hK x y hx hy; omega) hPR ha hb
  have e : p_lb n u v σ = p_lbl n (nI a) (nI b) 400 (nI 0, (p_fw n (nI a) (nI b) (lp p_lbz 81 0 σ)).1, (p_fw n (nI a) (nI b) (lp p_lbz 81 0 σ)).2) := by
    unfold p_lb
    rw [hu, hv, if_pos hne]
    rfl
  rw [e]
  have e11 : (p_fw n (nI a) (nI b) (lp p_lbz 81 0 σ)).2 11 = lp p_lbz 81 0 σ 11 := p_fw_k (by decide) (by decide) _
  exact p_lbl_spec hn ha hb hab hK hKb 400 0 _ B d _ (by rw [e11]; exact hPR) hC hm (fun _ _ _ _ => rfl) (fun _ _ _ => rfl) (by omega)
end
section
/-! the questions: least, without, between, separated -/
set_option maxRecDepth 100000
theorem BB_le {n : Nat} {V : Nat → Bool} {lab : Nat → Nat} {w : Nat → Nat → Nat} (hn : n ≤ 9) (hw : ∀ u v, u < n → v < n → w u v ≤ 50) (x y : Nat) : BB n V lab w x y ≤ 4050 := by
  have h1 : BB n V lab w x y ≤ ds n (fun _ _ => 50) := ds_le n (fun u v hu hv => by
    unfold tw
    split
    · exact hw u v hu hv
    · omega)
  have h2 : ds n (fun _ _ => 50) = n * (n * 50) := by
    unfold ds
    rw [sm_congr n (fun i _ => sm_const n 50), sm_const]
  have h3 : n * (n * 50) ≤ 9 * (9 * 50) := Nat.mul_le_mul hn (Nat.mul_le_mul hn (Nat.le_refl _))
  omega
theorem BB_0 {n : Nat} {V : Nat → Bool} {lab : Nat → Nat} {w : Nat → Nat → Nat} {x y : Nat} (hl : ∀ j, j < n → lab j < n ∧ lab (lab j) = lab j) (hV : ∀ j, j < n → V j = true → V (lab j) = true) (h : ¬ (lf V lab x = true ∧ lf V lab y = true)) : BB n V lab w x y = 0 := by
  refine ds_zero n (fun u v hu hv => if_neg (fun h1 => h ?_))
  obtain ⟨h1, h2, h3, h4, h5⟩ := h1
  subst h4; subst h5
  exact ⟨decide_eq_true ⟨hV u hu h1, (hl u hu).2⟩, decide_eq_true ⟨hV v hv h2, (hl v hv).2⟩⟩
theorem q_lg {n : Nat} {skip : Int32} {σ : g_St} {Φ : (Nat → Bool) → Prop} (hn : n ≤ 9) (hok : g_OK (σ 1) (σ 2)) (h : LB n σ Φ) (hV : Φ (fun x => !(g_V skip x))) : MinOf (fun S => Φ S ∧ NT n (g_V skip) S) (ct n (g_V skip) (g_w (σ 1))) (p_lg n (p_sw n skip σ)).1 := by
  obtain ⟨lab, h1, h2⟩ := h
  have hl : ∀ j, j < n → lab j < n ∧ lab (lab j) = lab j := fun j hj => ⟨(h1 j hj).1, (h1 j hj).2.2⟩
  have hVV : ∀ j, j < n → g_V skip j = true → g_V skip (lab j) = true := by
    intro j hj hv
    have e := (h2 _).mpr hV j hj
    try dsimp only at e
    rw [hv] at e
    cases hb : g_V skip (lab j)
    · rw [hb] at e; cases e
    · rfl
  have hws : ∀ u v, u < n → v < n → g_w (σ 1) u v = g_w (σ 1) v u := fun u v hu hv => g_w_s hok (by omega) (by omega)
  have hwl : ∀ u v, u < n → v < n → g_w (σ 1) u v ≤ 50 := fun u v hu hv => g_w_le hok (by omega) (by omega)
  obtain ⟨s6, s5, s4⟩ := p_sw_spec (skip := skip) hn (fun j hj => ⟨(h1 j hj).1, (h1 j hj).2.1⟩) hok
  have eq : ∀ S, cA n (lf (g_V skip) lab) (BB n (g_V skip) lab (g_w (σ 1))) S = ct n (g_V skip) (g_w (σ 1)) (fun v => S (lab v)) := cA_ct hl hVV
  have key := p_lg_spec (A := lf (g_V skip) lab) (B := BB n (g_V skip) lab (g_w (σ 1))) (σ := p_sw n skip σ) hn s4 s6 s5 (fun x y _ _ => BB_s hws x y) (fun x y _ _ => BB_le hn hwl x y) (fun S => by
    rw [eq]
    have := ct_le (V := g_V skip) (S := fun v => S (lab v)) hn hwl
    omega)
  have toA : ∀ T, Φ T → NT n (g_V skip) T → NT n (lf (g_V skip) lab) T := by
    intro T hT hN
    have hT := (h2 T).mpr hT
    obtain ⟨⟨u, a1, a2, a3⟩, ⟨v, b1, b2, b3⟩⟩ := hN
    exact ⟨⟨lab u, (hl u a1).1, decide_eq_true ⟨hVV u a1 a2, (hl u a1).2⟩, by rw [hT u a1]; exact a3⟩, ⟨lab v, (hl v b1).1, decide_eq_true ⟨hVV v b1 b2, (hl v b1).2⟩, by rw [hT v b1]; exact b3⟩⟩
  rcases key with ⟨k1, k2⟩ | ⟨S, k1, k2, k3⟩
  · exact Or.inl ⟨k1, fun T hT => k2 T (toA T hT.1 hT.2)⟩
  · refine Or.inr ⟨fun v => S (lab v), ⟨(h2 _).mp (fun v hv => by (try dsimp only); rw [(hl v hv).2]), ?_⟩, by rw [← eq]; exact k2, fun T hT => ?_⟩
    · obtain ⟨⟨u, a1, a2, a3⟩, ⟨v, b1, b2, b3⟩⟩ := k1
      have a2 := of_decide_eq_true a2
      have b2 := of_decide_eq_true b2
      exact ⟨⟨u, a1, a2.1, by (try dsimp only); rw [a2.2]; exact a3⟩, ⟨v, b1, b2.1, by (try dsimp only); rw [b2.2]; exact b3⟩⟩
    · rw [← eq]
      refine Nat.le_trans (k3 T (toA T hT.1 hT.2)) ?_
      rw [eq]
      exact Nat.le_of_eq (ct_congr (fun j hj => (h2 T).mpr hT.1 j hj))
theorem g_V_m1 {x : Nat} (hx : x < 9) : g_V (-1) x = true := by
  refine g_V_t.mpr (fun e => ?_)
  have h := nI_pos' (n := x) (by omega)
  rw [e] at h
  exact absurd h (by decide)
theorem q_lb {n u v : Nat} {σ τ : g_St} {Φ : (Nat → Bool) → Prop} (hn : n ≤ 9) (hok : g_OK (σ 1) (σ 2)) (h : LB n σ Φ) (hu : u < n) (hv : v < n) (h3 : τ 3 = σ 3) (h4 : τ 4 = p_sw n (-1) σ 4) : MinOf (fun S => Φ S ∧ ¬ S u = S v) (ct n (g_V (-1)) (g_w (σ 1))) (p_lb n u v τ).1 := by
  obtain ⟨lab, h1, h2⟩ := h
  have hl : ∀ j, j < n → lab j < n ∧ lab (lab j) = lab j := fun j hj => ⟨(h1 j hj).1, (h1 j hj).2.2⟩
  have hVV : ∀ j, j < n → g_V (-1) j = true → g_V (-1) (lab j) = true := fun j hj _ => g_V_m1 (by have := (hl j hj).1; omega)
  have hws : ∀ u v, u < n → v < n → g_w (σ 1) u v = g_w (σ 1) v u := fun u v hu hv => g_w_s hok (by omega) (by omega)
  have hwl : ∀ u v, u < n → v < n → g_w (σ 1) u v ≤ 50 := fun u v hu hv => g_w_le hok (by omega) (by omega)
  by_cases c : lab u = lab v
  · have e : (p_lb n u v τ).1 = -3 := by
      unfold p_lb
      rw [if_neg (not_not_intro (by rw [h3, (h1 u hu).2.1, (h1 v hv).2.1, c]))]
    refine Or.inl ⟨e, fun S hS => hS.2 ?_⟩
    have hT := (h2 S).mpr hS.1
    rw [← hT u hu, ← hT v hv, c]
  · obtain ⟨s6, s5, s4⟩ := p_sw_spec (skip := -1) hn (fun j hj => ⟨(h1 j hj).1, (h1 j hj).2.1⟩) hok
    have eq : ∀ S, cwt n (BB n (g_V (-1)) lab (g_w (σ 1))) S = ct n (g_V (-1)) (g_w (σ 1)) (fun v => S (lab v)) := by
      intro S
      rw [← cA_ct hl hVV]
      unfold cwt cA
      refine ds_congr n (fun x y hx hy => ?_)
      by_cases c2 : lf (g_V (-1)) lab x = true ∧ lf (g_V (-1)) lab y = true
      · by_cases c3 : S x = true ∧ S y = false
        · rw [if_pos c3, if_pos ⟨c2.1, c2.2, c3.1, c3.2⟩]
        · rw [if_neg c3, if_neg (fun h => c3 h.2.2)]
      · rw [BB_0 hl hVV c2]; split <;> split <;> rfl
    obtain ⟨T, t1, t2, t3, t4⟩ := p_lb_spec (u := u) (v := v) (a := lab u) (b := lab v) (K := 4050) (B := BB n (g_V (-1)) lab (g_w (σ 1))) (σ := τ) hn (hl u hu).1 (hl v hv).1 c (by rw [h3]; exact (h1 u hu).2.1) (by rw [h3]; exact (h1 v hv).2.1) (fun x y hx hy => by rw [h4]; exact s4 x y hx hy) (fun x y _ _ => BB_le hn hwl x y) (by decide)
    refine Or.inr ⟨fun v => T (lab v), ⟨(h2 _).mp (fun v hv => by (try dsimp only); rw [(hl v hv).2]), ?_⟩, by rw [← eq]; exact t3, fun S hS => ?_⟩
    · dsimp only
      rw [t1, t2]; decide
    · have hS1 := (h2 S).mpr hS.1
      rw [← eq]
      have e1 : cwt n (BB n (g_V (-1)) lab (g_w (σ 1))) S = ct n (g_V (-1)) (g_w (σ 1)) S := by rw [eq]; exact ct_congr (fun j hj => hS1 j hj)
      rw [← e1]
      by_cases c2 : S u = true
      · have c3 : S v = false := sw_bf (fun h => hS.2 (by rw [c2, h]))
        exact t4 S (by rw [hS1 u hu]; exact c2) (by rw [hS1 v hv]; exact c3)
      · have c2' : S u = false := sw_bf c2
        have c3 : S v = true := by
          cases hb : S v
          · exact absurd (by rw [c2', hb]) hS.2
          · rfl
        have e2 : cwt n (BB n (g_V (-1)) lab (g_w (σ 1))) S = cwt n (BB n (g_V (-1)) lab (g_w (σ 1))) (fun x => !S x) := by
          unfold cwt
          rw [ds_swap]
          refine ds_congr n (fun x y hx hy => ?_)
          show (if S y = true ∧ S x = false then BB n (g_V (-1)) lab (g_w (σ 1)) y x else 0) = (if (!S x) = true ∧ (!S y) = false then BB n (g_V (-1)) lab (g_w (σ 1)) x y else 0)
          rw [BB_s hws x y]
          cases S x <;> cases S y <;> simp
        rw [e2]
        exact t4 _ (by (try dsimp only); rw [hS1 u hu, c2']; rfl) (by (try dsimp only); rw [hS1 v hv, c3]; rfl)
theorem q_sl {n : Nat} {skip : Int32} {σ : g_St} (hn : n ≤ 9) (hok : g_OK (σ 1) (σ 2)) : g_OK (p_sl n skip σ 1) (p_sl n skip σ 2) ∧ p_sl n skip σ 1 = σ 1 ∧ p_sl n skip σ 2 = σ 2 := by
  have e1 : p_sl n skip σ 1 = σ 1 := p_sl_k (by decide) σ
  have e2 : p_sl n skip σ 2 = σ 2 := p_sl_k (by decide) σ
  exact ⟨by rw [e1, e2]; exact hok, e1, e2⟩
theorem q_prep {n : Nat} {skip : Int32} {σ : g_St} (hn : n ≤ 9) (hok : g_OK (σ 1) (σ 2)) : MinOf (fun S => GL n (g_V skip) (σ 2) S ∧ NT n (g_V skip) S) (ct n (g_V skip) (g_w (σ 1))) (p_lg n (p_prep n skip σ)).1 := by
  obtain ⟨o, e1, e2⟩ := q_sl (skip := skip) hn hok
  have h := q_lg (skip := skip) hn o (p_sl_LB hn hok) (fun u v _ _ h1 h2 _ => by (try dsimp only); rw [h1, h2])
  rw [e1] at h
  exact h
theorem law_lgx {n : Nat} {skip : Int32} {σ τ : g_St} (h9 : n ≤ 9) (h : g_I σ τ) : (p_lg n (p_prep n skip σ)).1 = r_lo n skip (-1) (-1) τ := by
  obtain ⟨h1, e1, e2⟩ := h
  refine MinOf.uniq (q_prep h9 h1) ?_
  have hr := r_lo_spec (τ := τ) (out := skip) (u := -1) (v := -1) h9 (by rw [e1, e2]; exact h1) (Or.inl (by decide))
  rw [e1, e2] at hr
  exact hr.congr (fun S => ⟨fun h => ⟨h.1, h.2.1⟩, fun h => ⟨h.1, h.2, Or.inl (by decide)⟩⟩) (fun _ _ => rfl)
theorem law_least {n : Nat} {σ τ : g_St} (h2 : 2 ≤ n) (h9 : n ≤ 9) (h : g_I σ τ) : (p_least n σ).1 = r_least n τ := law_lgx h9 h
theorem law_wo {n : Nat} {σ τ : g_St} {v : Int32} (h2 : 2 ≤ n) (h9 : n ≤ 9) (h : g_I σ τ) : (p_wo n v σ).1 = r_wo n v τ := by
  unfold p_wo r_wo
  by_cases c1 : v < 0
  · rw [if_pos c1, if_pos c1]
  · rw [if_neg c1, if_neg c1]
    by_cases c2 : v < nI n
    · rw [if_pos c2, if_pos c2]; exact law_lgx h9 h
    · rw [if_neg c2, if_neg c2]
/-- leastBetween behind least's preparations, any heap that keeps labels and sums -/
theorem law_lbx {n u v : Nat} {σ τ ρ : g_St} (h9 : n ≤ 9) (h : g_I σ τ) (hu : u < n) (hv : v < n) (hne : ¬ u = v) (h3 : ρ 3 = p_prep n (-1) σ 3) (h4 : ρ 4 = p_prep n (-1) σ 4) : (p_lb n u v ρ).1 = r_lo n (-1) (nI u) (nI v) τ := by
  obtain ⟨h1, e1, e2⟩ := h
  obtain ⟨o, f1, f2⟩ := q_sl (skip := -1) h9 h1
  have hq := q_lb (τ := ρ) h9 o (p_sl_LB h9 h1) hu hv (by rw [h3]; exact p_sw_k (by decide) (by decide) (by decide) _) h4
  rw [f1] at hq
  refine MinOf.uniq hq ?_
  have hr := r_lo_spec (τ := τ) (out := -1) (u := nI u) (v := nI v) h9 (by rw [e1, e2]; exact h1) (Or.inr ⟨⟨u, hu, rfl⟩, ⟨v, hv, rfl⟩⟩)
  rw [e1, e2] at hr
  refine hr.congr (fun S => ?_) (fun _ _ => rfl)
  unfold LOP
  rw [nx_nI (by omega), nx_nI (by omega)]
  constructor
  · rintro ⟨a1, a2, a3⟩
    exact ⟨a1, a3.resolve_left (nI_pos (by omega))⟩
  · rintro ⟨a1, a3⟩
    refine ⟨a1, ?_, Or.inr a3⟩
    by_cases c : S u = true
    · exact ⟨⟨u, hu, g_V_m1 (by omega), c⟩, ⟨v, hv, g_V_m1 (by omega), sw_bf (fun h => a3 (by rw [c, h]))⟩⟩
    · refine ⟨⟨v, hv, g_V_m1 (by omega), ?_⟩, ⟨u, hu, g_V_m1 (by omega), sw_bf c⟩⟩
      cases hb : S v
      · exact absurd (by rw [sw_bf c, hb]) a3
      · rfl
theorem law_bt {n : Nat} {σ τ : g_St} {u v : Int32} (h2 : 2 ≤ n) (h9 : n ≤ 9) (h : g_I σ τ) : (p_bt n u v σ).1 = r_bt n u v τ := by
  unfold p_bt r_bt
  by_cases c : p_bp n u v = 0
  · rw [if_pos c, if_pos c]
    obtain ⟨⟨a, ha, rfl⟩, ⟨b, hb, rfl⟩, hne⟩ := p_bp_0 h9 c
    rw [nx_nI (by omega), nx_nI (by omega)]
    exact law_lbx h9 h ha hb (fun e => hne (by rw [e])) rfl rfl
  · rw [if_neg c, if_neg c]
theorem tri_swap (I : Nat → Nat → Nat) (hI : ∀ u v, u < v → I u v = I v u) : ∀ n, sm n (fun u => sm (n - (u + 1)) (fun j => I u (u + 1 + j))) = hs n I := by
  intro n
  induction n with
  | zero => rfl
  | succ n ih =>
    show sm n (fun u => sm (n + 1 - (u + 1)) (fun j => I u (u + 1 + j))) + sm (n + 1 - (n + 1)) (fun j => I n (n + 1 + j)) = hs n I + sm n (fun j => I n j)
    rw [← ih, Nat.sub_self]
    show _ + 0 = _
    rw [Nat.add_zero, ← sm_add]
    refine sm_congr n (fun u hu => ?_)
    rw [show n + 1 - (u + 1) = (n - (u + 1)) + 1 by omega]
    show sm (n - (u + 1)) _ + I u (u + 1 + (n - (u + 1))) = _
    rw [show u + 1 + (n - (u + 1)) = n by omega, hI u n hu]
theorem law_se {n : Nat} {σ τ : g_St} (h2 : 2 ≤ n) (h9 : n ≤ 9) (h : g_I σ τ) : (p_se n σ).1 = r_se n τ := by
  have hv := law_least h2 h9 h
  unfold p_se r_se
  rw [hv]
  by_cases c : r_least n τ = -3
  · rw [if_neg (not_not_intro c)]
    have e := lp_sum (f := r_seu n τ (r_least n τ)) (g := fun _ => 0) n 0 (fun u x hu => by
      unfold r_seu
      have e2 := lp_sum (f := r_sev n τ (r_least n τ) u) (g := fun _ => 0) u x (fun v x _ => by
        unfold r_sev
        rw [if_pos c]
        show x = x + nI 0
        rw [nI_0]; simp)
      rw [e2, sm_zero u (fun _ _ => rfl)])
    rw [e, sm_zero n (fun _ _ => rfl)]
    show (0 : Int32) = 0 + nI 0
    decide
  · rw [if_pos c]
    have hI1 : g_I (p_least n σ).2 τ := h.kp p_least_kp
    -- what a pair adds
    have hsym : ∀ u v, u < n → v < n → ¬ u = v → r_lo n (-1) (nI u) (nI v) τ = r_lo n (-1) (nI v) (nI u) τ := by
      intro u v hu hv hne
      obtain ⟨h1, e1, e2⟩ := h
      have a1 := r_lo_spec (τ := τ) (out := -1) (u := nI u) (v := nI v) h9 (by rw [e1, e2]; exact h1) (Or.inr ⟨⟨u, hu, rfl⟩, ⟨v, hv, rfl⟩⟩)
      have a2 := r_lo_spec (τ := τ) (out := -1) (u := nI v) (v := nI u) h9 (by rw [e1, e2]; exact h1) (Or.inr ⟨⟨v, hv, rfl⟩, ⟨u, hu, rfl⟩⟩)
      refine a1.uniq (a2.congr (fun S => ?_) (fun _ _ => rfl))
      have q1 : ¬ nI u < 0 := nI_pos (by omega)
      have q2 : ¬ nI v < 0 := nI_pos (by omega)
      exact ⟨fun h => ⟨h.1, h.2.1, Or.inr (fun e => (h.2.2.resolve_left q2) e.symm)⟩, fun h => ⟨h.1, h.2.1, Or.inr (fun e => (h.2.2.resolve_left q1) e.symm)⟩⟩
    have eI : ∃ I : Nat → Nat → Nat, (∀ u v, u < v → I u v = I v u) ∧ ∀ u v, u < n → v < n → I u v = if r_lo n (-1) (nI u) (nI v) τ = r_least n τ then 1 else 0 := by
      refine ⟨fun u v => if u < n ∧ v < n then (if r_lo n (-1) (nI u) (nI v) τ = r_least n τ then 1 else 0) else 0, fun u v huv => ?_, fun u v hu hv => if_pos ⟨hu, hv⟩⟩
      try dsimp only
      by_cases c2 : u < n ∧ v < n
      · rw [if_pos c2, if_pos (show v < n ∧ u < n from ⟨c2.2, c2.1⟩), hsym u v c2.1 c2.2 (by omega)]
      · rw [if_neg c2, if_neg (fun h => c2 ⟨h.2, h.1⟩)]
    obtain ⟨I, i1, i2⟩ := eI
    have er : lp (r_seu n τ (r_least n τ)) n 0 0 = 0 + nI (hs n I) := by
      unfold hs
      refine lp_sum n 0 (fun u x hu => ?_)
      unfold r_seu
      refine lp_sum u x (fun v x hv => ?_)
      unfold r_sev
      rw [if_neg c, i2 u v hu (by omega)]
      by_cases c2 : r_lo n (-1) (nI u) (nI v) τ = r_least n τ
      · rw [if_neg (not_not_intro c2), if_pos c2]; rfl
      · rw [if_pos c2, if_neg c2]
        show x = x + nI 0
        rw [nI_0]; simp
    have ep := lp_ind (f := p_seu n (r_least n τ)) (fun i q => q.2 3 = p_prep n (-1) (p_least n σ).2 3 ∧ q.2 4 = p_prep n (-1) (p_least n σ).2 4 ∧ q.1 = nI (sm i (fun u => sm (n - (u + 1)) (fun j => I u (u + 1 + j))))) n 0 (0, p_prep n (-1) (p_least n σ).2) ⟨rfl, rfl, rfl⟩ (fun u q _ hu hq => by
      obtain ⟨q3, q4, q1⟩ := hq
      have inner := lp_ind (f := p_sev n (r_least n τ) u) (fun i r => r.2 3 = p_prep n (-1) (p_least n σ).2 3 ∧ r.2 4 = p_prep n (-1) (p_least n σ).2 4 ∧ r.1 = nI (sm u (fun u => sm (n - (u + 1)) (fun j => I u (u + 1 + j))) + sm (i - (u + 1)) (fun j => I u (u + 1 + j)))) (n - (u + 1)) (u + 1) q ⟨q3, q4, by rw [q1, Nat.sub_self]; rfl⟩ (fun v r hv1 hv2 hr => by
        obtain ⟨r3, r4, r1⟩ := hr
        have el := law_lbx (ρ := r.2) h9 hI1 (show u < n by omega) (show v < n by omega) (by omega) r3 r4
        refine ⟨(p_lb_k (k := 3) (by decide) (by decide) (by decide) r.2).trans r3, (p_lb_k (k := 4) (by decide) (by decide) (by decide) r.2).trans r4, ?_⟩
        show (if ¬ (p_lb n u v r.2).1 = r_least n τ then r.1 else r.1 + 1) = _
        rw [el, r1, show v + 1 - (u + 1) = (v - (u + 1)) + 1 by omega]
        show _ = nI (_ + (sm (v - (u + 1)) _ + I u (u + 1 + (v - (u + 1)))))
        rw [show u + 1 + (v - (u + 1)) = v by omega, i2 u v (by omega) (by omega)]
        by_cases c2 : r_lo n (-1) (nI u) (nI v) τ = r_least n τ
        · rw [if_neg (not_not_intro c2), if_pos c2, nI_1]; congr 1
        · rw [if_pos c2, if_neg c2]; rfl)
      rw [show u + 1 + (n - (u + 1)) = n by omega] at inner
      exact inner)
    rw [Nat.zero_add] at ep
    rw [ep.2.2, tri_swap I i1, er]
    simp
end
section
/-! smallest -/
set_option maxRecDepth 100000
theorem MinOf.at {P : (Nat → Bool) → Prop} {c : (Nat → Bool) → Nat} {r : Int32} {m : Nat} (h : MinOf P c r) (hb : ∀ S, c S ≤ 4050) (hmin : ∀ S, P S → m ≤ c S) (hm : m ≤ 4050) : r = nI m ↔ ∃ S, P S ∧ c S = m := by
  rcases h with ⟨a1, b1⟩ | ⟨S, a1, b1, c1⟩
  · constructor
    · intro e
      exact absurd (e.symm.trans a1) (nI_m3 (by omega))
    · rintro ⟨S, h1, -⟩
      exact absurd h1 (b1 S)
  · constructor
    · intro e
      have hc := hb S
      exact ⟨S, a1, (nI_eq (by omega) (by omega)).mp (b1.symm.trans e)⟩
    · rintro ⟨T, h1, h2⟩
      have q1 := c1 T h1
      have q2 := hmin S a1
      rw [b1, show c S = m by omega]
/-- a least cut without vertex 0 -/
def sm_O (n : Nat) (b : Nat → Int32) (w : Nat → Nat → Nat) (m : Nat) (S : Nat → Bool) : Prop := GL n (g_V (-1)) b S ∧ NT n (g_V (-1)) S ∧ ct n (g_V (-1)) w S = m ∧ S 0 = false
theorem sm_O_congr {n : Nat} {b : Nat → Int32} {w : Nat → Nat → Nat} {m : Nat} {S T : Nat → Bool} (h0 : 0 < n) (h : ∀ j, j < n → S j = T j) (hS : sm_O n b w m S) : sm_O n b w m T := by
  obtain ⟨a1, a2, a3, a4⟩ := hS
  exact ⟨GL_congr h a1, NT_congr h a2, by rw [← ct_congr h]; exact a3, by rw [← h 0 h0]; exact a4⟩
theorem GL_flip {n : Nat} {V : Nat → Bool} {b : Nat → Int32} {S : Nat → Bool} (h : GL n V b S) : GL n V b (fun x => !S x) := fun u v hu hv h1 h2 h3 => by
  try dsimp only
  rw [h u v hu hv h1 h2 h3]
theorem NT_flip {n : Nat} {V : Nat → Bool} {S : Nat → Bool} (h : NT n V S) : NT n V (fun x => !S x) := by
  obtain ⟨⟨u, a1, a2, a3⟩, ⟨v, b1, b2, b3⟩⟩ := h
  exact ⟨⟨v, b1, b2, by (try dsimp only); rw [b3]; rfl⟩, ⟨u, a1, a2, by (try dsimp only); rw [a3]; rfl⟩⟩
theorem ct_flip {n : Nat} {V : Nat → Bool} {w : Nat → Nat → Nat} (hw : ∀ u v, u < n → v < n → w u v = w v u) (S : Nat → Bool) : ct n V w (fun x => !S x) = ct n V w S := by
  rw [ct_hs hw, ct_hs hw]
  refine hs_congr n (fun u v _ _ => ?_)
  cases S u <;> cases S v <;> simp
theorem p_lwv_bit {F : Nat} : ∀ (k i : Nat), i + k < 16 → F < 2 ^ (i + k + 1) → (∀ j, j < i → F.testBit j = false) → ¬ F = 0 → F.testBit (p_lwv (nI F) k i) = true := by
  intro k
  induction k with
  | zero =>
    intro i hi hF hz h0
    obtain ⟨j, hj⟩ := Nat.exists_testBit_of_ne_zero h0
    have h1 : ¬ j < i := fun h => by rw [hz j h] at hj; cases hj
    have h2 : j < i + 1 := by
      refine Decidable.byContradiction fun c => ?_
      rw [Nat.testBit_lt_two_pow (Nat.lt_of_lt_of_le hF (Nat.pow_le_pow_right (by decide) (by omega)))] at hj
      cases hj
    have e : j = i := by omega
    rw [← e]
    show F.testBit (p_lwv (nI F) 0 j) = true
    exact hj
  | succ k ih =>
    intro i hi hF hz h0
    have hF31 : F < 2 ^ 31 := Nat.lt_of_lt_of_le hF (Nat.pow_le_pow_right (by decide) (by omega))
    have e := g_bt_nI (m := F) (j := i) hF31 (by omega)
    cases hb : F.testBit i
    · rw [hb] at e
      have e2 : p_lwv (nI F) (k + 1) i = p_lwv (nI F) k (i + 1) := by
        rw [p_lwv, if_neg (not_not_intro (g_bt_f.mp e))]
      rw [e2]
      refine ih (i + 1) (by omega) (by rw [show i + 1 + k + 1 = i + (k + 1) + 1 by omega]; exact hF) (fun j hj => ?_) h0
      by_cases c : j = i
      · rw [c]; exact hb
      · exact hz j (by omega)
    · rw [hb] at e
      have e2 : p_lwv (nI F) (k + 1) i = i := by
        rw [p_lwv, if_pos (by rw [g_bt_t.mp e]; decide)]
      rw [e2]; exact hb
theorem q_lw {n N F m : Nat} {σ : g_St} (h2 : 2 ≤ n) (hn : n ≤ 9) (hok : g_OK (σ 1) (σ 2)) (hN : N < 2 ^ n) (hF : F < 2 ^ n) (hN0 : N.testBit 0 = true) (hm : m ≤ 4050) (hmin : ∀ S, GL n (g_V (-1)) (σ 2) S → NT n (g_V (-1)) S → m ≤ ct n (g_V (-1)) (g_w (σ 1)) S) : (p_lw n (nI N) (nI F) σ).1 = nI m ↔ ∃ S, sm_O n (σ 2) (g_w (σ 1)) m S ∧ (∀ x, x < n → N.testBit x = true → S x = false) ∧ ∀ x, x < n → F.testBit x = true → S x = true := by
  have hp : 2 ^ n ≤ 2 ^ 9 := Nat.pow_le_pow_right (by decide) hn
  have bN : ∀ x, x < n → g_bt (nI N) x = N.testBit x := fun x hx => g_bt_nI (by omega) (by omega)
  have bF : ∀ x, x < n → g_bt (nI F) x = F.testBit x := fun x hx => g_bt_nI (by omega) (by omega)
  have hws : ∀ u v, u < n → v < n → g_w (σ 1) u v = g_w (σ 1) v u := fun u v hu hv => g_w_s hok (by omega) (by omega)
  have hwl : ∀ u v, u < n → v < n → g_w (σ 1) u v ≤ 50 := fun u v hu hv => g_w_le hok (by omega) (by omega)
  have hcl : ∀ S, ct n (g_V (-1)) (g_w (σ 1)) S ≤ 4050 := fun S => ct_le hn hwl
  obtain ⟨o, f1, f2⟩ := q_sl (skip := -1) hn hok
  have hLB := p_ms_LB (set := nI F) hn (p_ms_LB (set := nI N) hn (p_sl_LB (skip := -1) hn hok))
  have k1 : p_ms n (nI F) (p_ms n (nI N) (p_sl n (-1) σ)) 1 = σ 1 := by rw [p_ms_k (by decide), p_ms_k (by decide)]; exact f1
  have k2 : p_ms n (nI F) (p_ms n (nI N) (p_sl n (-1) σ)) 2 = σ 2 := by rw [p_ms_k (by decide), p_ms_k (by decide)]; exact f2
  have hok2 : g_OK (p_ms n (nI F) (p_ms n (nI N) (p_sl n (-1) σ)) 1) (p_ms n (nI F) (p_ms n (nI N) (p_sl n (-1) σ)) 2) := by rw [k1, k2]; exact hok
  have hV0 : ∀ x, x < n → (!(g_V (-1) x)) = false := fun x hx => by rw [g_V_m1 (by omega)]; rfl
  -- a set or its other side
  have flip : ∀ S : Nat → Bool, ∃ T : Nat → Bool, T 0 = false ∧ (∀ x y, T x = T y ↔ S x = S y) ∧ ct n (g_V (-1)) (g_w (σ 1)) T = ct n (g_V (-1)) (g_w (σ 1)) S ∧ (NT n (g_V (-1)) S → NT n (g_V (-1)) T) := by
    intro S
    cases hb : S 0
    · exact ⟨S, hb, fun _ _ => Iff.rfl, rfl, fun h => h⟩
    · refine ⟨fun x => !S x, by (try dsimp only); rw [hb]; rfl, fun x y => ?_, ct_flip hws S, NT_flip⟩
      try dsimp only
      cases S x <;> cases S y <;> decide
  by_cases c : F = 0
  · have e : p_lw n (nI N) (nI F) σ = p_lg n (p_sw n (-1) (p_ms n (nI F) (p_ms n (nI N) (p_sl n (-1) σ)))) := by
      unfold p_lw
      rw [if_neg (not_not_intro (by rw [c]; rfl))]
      rfl
    rw [e]
    have h := q_lg (skip := -1) hn hok2 hLB (by
      refine ⟨⟨fun u v hu hv _ _ _ => ?_, fun u v hu hv _ _ => ?_⟩, fun u v hu hv _ _ => ?_⟩ <;> exact (hV0 u hu).trans (hV0 v hv).symm)
    rw [k1] at h
    rw [h.at hcl (fun S hS => hmin S hS.1.1.1 hS.2) hm]
    constructor
    · rintro ⟨S, ⟨⟨⟨s1, s2⟩, s3⟩, s4⟩, s5⟩
      obtain ⟨T, t1, t2, t3, t4⟩ := flip S
      refine ⟨T, ⟨fun u v hu hv h1 h2 h3 => (t2 u v).mpr (s1 u v hu hv h1 h2 h3), t4 s4, by rw [t3]; exact s5, t1⟩, fun x hx hb => ?_, fun x hx hb => ?_⟩
      · rw [← t1]
        exact (t2 x 0).mpr (s2 x 0 hx (by omega) (by rw [bN x hx]; exact hb) (by rw [bN 0 (by omega)]; exact hN0))
      · rw [c, Nat.zero_testBit] at hb; cases hb
    · rintro ⟨S, ⟨s1, s2, s3, s4⟩, s5, -⟩
      refine ⟨S, ⟨⟨⟨s1, fun u v hu hv h1 h2 => ?_⟩, fun u v hu hv h1 h2 => ?_⟩, s2⟩, s3⟩
      · rw [s5 u hu (by rw [← bN u hu]; exact h1), s5 v hv (by rw [← bN v hv]; exact h2)]
      · rw [bF u hu, c, Nat.zero_testBit] at h1; cases h1
  · have c' : ¬ nI F = 0 := nI_ne0 (by omega) (by omega)
    have hw := p_lwv_lt hn hF c'
    have hwb : F.testBit (p_lwv (nI F) 8 0) = true := p_lwv_bit 8 0 (by decide) (Nat.lt_of_lt_of_le hF hp) (fun j hj => by omega) c
    have e : p_lw n (nI N) (nI F) σ = p_lb n 0 (p_lwv (nI F) 8 0) (p_lwp n (nI N) (nI F) σ) := by
      unfold p_lw
      rw [if_pos c']
    rw [e]
    generalize p_lwv (nI F) 8 0 = z at hw hwb
    have h := q_lb (τ := p_lwp n (nI N) (nI F) σ) (u := 0) (v := z) hn hok2 hLB (by omega) hw (p_sw_k (by decide) (by decide) (by decide) _) rfl
    rw [k1] at h
    have nt : ∀ S : Nat → Bool, ¬ S 0 = S z → NT n (g_V (-1)) S := by
      intro S hS
      cases hb : S 0
      · refine ⟨⟨z, hw, g_V_m1 (by omega), ?_⟩, ⟨0, by omega, g_V_m1 (by omega), hb⟩⟩
        cases hz : S z
        · exact absurd (by rw [hb, hz]) hS
        · rfl
      · exact ⟨⟨0, by omega, g_V_m1 (by omega), hb⟩, ⟨z, hw, g_V_m1 (by omega), sw_bf (fun h => hS (by rw [hb, h]))⟩⟩
    rw [h.at hcl (fun S hS => hmin S hS.1.1.1 (nt S hS.2)) hm]
    constructor
    · rintro ⟨S, ⟨⟨⟨s1, s2⟩, s3⟩, s4⟩, s5⟩
      obtain ⟨T, t1, t2, t3, t4⟩ := flip S
      have tz : T z = true := by
        cases hz : T z
        · exact absurd ((t2 0 z).mp (by rw [t1, hz])) s4
        · rfl
      refine ⟨T, ⟨fun u v hu hv h1 h2 h3 => (t2 u v).mpr (s1 u v hu hv h1 h2 h3), t4 (nt S s4), by rw [t3]; exact s5, t1⟩, fun x hx hb => ?_, fun x hx hb => ?_⟩
      · rw [← t1]
        exact (t2 x 0).mpr (s2 x 0 hx (by omega) (by rw [bN x hx]; exact hb) (by rw [bN 0 (by omega)]; exact hN0))
      · rw [← tz]
        exact (t2 x z).mpr (s3 x z hx hw (by rw [bF x hx]; exact hb) (by rw [bF z hw]; exact hwb))
    · rintro ⟨S, ⟨s1, s2, s3, s4⟩, s5, s6⟩
      refine ⟨S, ⟨⟨⟨s1, fun u v hu hv h1 h2 => ?_⟩, fun u v hu hv h1 h2 => ?_⟩, ?_⟩, s3⟩
      · rw [s5 u hu (by rw [← bN u hu]; exact h1), s5 v hv (by rw [← bN v hv]; exact h2)]
      · rw [s6 u hu (by rw [← bF u hu]; exact h1), s6 v hv (by rw [← bF v hv]; exact h2)]
      · rw [s4, s6 z hw hwb]; decide
/-- the vertices above k are decided -/
def sm_I (n : Nat) (b : Nat → Int32) (w : Nat → Nat → Nat) (m k N F : Nat) : Prop := ∃ G, F = 2 ^ (k + 1) * G ∧ F < 2 ^ n ∧ N < 2 ^ n ∧ (∀ x, x < n → (N.testBit x = true ↔ (x = 0 ∨ (k < x ∧ F.testBit x = false)))) ∧ (∃ S, sm_O n b w m S ∧ ∀ x, k < x → x < n → S x = F.testBit x) ∧ ∀ M, M < 2 ^ n → sm_O n b w m (fun x => M.testBit x) → G ≤ M / 2 ^ (k + 1)
theorem sm_lowb {k G x : Nat} (h : x < k) : (2 ^ k * G).testBit x = false := by
  rw [Nat.testBit_two_pow_mul, decide_eq_false (by omega)]; rfl
theorem sm_half (M k : Nat) : M / 2 ^ k = 2 * (M / 2 ^ (k + 1)) + (if M.testBit k = true then 1 else 0) := by
  rw [Nat.testBit_eq_decide_div_mod_eq, Nat.pow_succ, ← Nat.div_div_eq_div_mul]
  rcases Nat.mod_two_eq_zero_or_one (M / 2 ^ k) with h | h
  · rw [h, if_neg (by decide)]; omega
  · rw [h, if_pos (by decide)]; omega
theorem sm_I_step {n m k N F : Nat} {σ : g_St} (h2 : 2 ≤ n) (hn : n ≤ 9) (hok : g_OK (σ 1) (σ 2)) (hm : m ≤ 4050) (hmin : ∀ S, GL n (g_V (-1)) (σ 2) S → NT n (g_V (-1)) S → m ≤ ct n (g_V (-1)) (g_w (σ 1)) S) (hk : k + 1 < n) (h : sm_I n (σ 2) (g_w (σ 1)) m (k + 1) N F) : ∃ N' F', (p_smf n (nI m) (k + 1) (nI N, nI F, σ)).1 = nI N' ∧ (p_smf n (nI m) (k + 1) (nI N, nI F, σ)).2.1 = nI F' ∧ sm_I n (σ 2) (g_w (σ 1)) m k N' F' := by
  obtain ⟨G, hG, hF, hN, hNF, ⟨S0, hS0, hS0F⟩, hM⟩ := h
  have hp : 2 ^ (k + 1) < 2 ^ n := Nat.pow_lt_pow_right (by decide) hk
  have hN' : N ||| 2 ^ (k + 1) < 2 ^ n := Nat.or_lt_two_pow hN hp
  have hbF : F.testBit (k + 1) = false := by rw [hG]; exact sm_lowb (by omega)
  have hbF' : ∀ x, x < k + 1 + 1 → F.testBit x = false := fun x hx => by rw [hG]; exact sm_lowb hx
  have hbN' : ∀ x, (N ||| 2 ^ (k + 1)).testBit x = true ↔ (N.testBit x = true ∨ k + 1 = x) := by
    intro x
    rw [Nat.testBit_or, Nat.testBit_two_pow, Bool.or_eq_true, decide_eq_true_iff]
  have hMF : ∀ M x, M / 2 ^ (k + 1 + 1) = G → k + 1 < x → M.testBit x = F.testBit x := by
    intro M x hMG hx
    rw [hG, Nat.testBit_two_pow_mul, decide_eq_true (by omega), Bool.true_and, ← hMG, Nat.testBit_div_two_pow]
    congr 1; omega
  have hq := q_lw (σ := σ) (N := N ||| 2 ^ (k + 1)) (F := F) h2 hn hok hN' hF ((hbN' 0).mpr (Or.inl ((hNF 0 (by omega)).mpr (Or.inl rfl)))) hm hmin
  have eN : nI N ||| ((1 : Int32) <<< (nI (k + 1) &&& 31)) = nI (N ||| 2 ^ (k + 1)) := by rw [g_shl (k + 1) (by omega), g_or]
  have eF : nI F ||| ((1 : Int32) <<< (nI (k + 1) &&& 31)) = nI (F ||| 2 ^ (k + 1)) := by rw [g_shl (k + 1) (by omega), g_or]
  -- a set that answers leastWith's question
  have fits : ∀ S, sm_O n (σ 2) (g_w (σ 1)) m S → S (k + 1) = false → (∀ x, k + 1 < x → x < n → S x = F.testBit x) → (p_lw n (nI (N ||| 2 ^ (k + 1))) (nI F) σ).1 = nI m := by
    intro S s1 s2 s3
    refine hq.mpr ⟨S, s1, fun x hx hb => ?_, fun x hx hb => ?_⟩
    · rcases (hbN' x).mp hb with hb | hb
      · rcases (hNF x hx).mp hb with hb | ⟨hb1, hb2⟩
        · rw [hb]; exact s1.2.2.2
        · rw [s3 x hb1 hx]; exact hb2
      · rw [← hb]; exact s2
    · have : k + 1 < x := Decidable.byContradiction fun c => by rw [hbF' x (by omega)] at hb; cases hb
      rw [s3 x this hx]; exact hb
  by_cases c : (p_lw n (nI (N ||| 2 ^ (k + 1))) (nI F) σ).1 = nI m
  · have e : p_smf n (nI m) (k + 1) (nI N, nI F, σ) = (nI (N ||| 2 ^ (k + 1)), nI F, (p_lw n (nI (N ||| 2 ^ (k + 1))) (nI F) σ).2) := by
      unfold p_smf
      try dsimp only
      rw [eN, if_neg (not_not_intro c)]
    rw [e]
    obtain ⟨S, s1, s2, s3⟩ := hq.mp c
    refine ⟨N ||| 2 ^ (k + 1), F, rfl, rfl, 2 * G, ?_, hF, hN', fun x hx => ?_, ⟨S, s1, fun x hx hxn => ?_⟩, fun M hM1 hM2 => ?_⟩
    · rw [hG, Nat.pow_succ, Nat.mul_assoc]
    · rw [hbN', hNF x hx]
      constructor
      · rintro ((h1 | ⟨h1, h2⟩) | h1)
        · exact Or.inl h1
        · exact Or.inr ⟨by omega, h2⟩
        · exact Or.inr ⟨by omega, by rw [← h1]; exact hbF⟩
      · rintro (h1 | ⟨h1, h2⟩)
        · exact Or.inl (Or.inl h1)
        · by_cases e : k + 1 = x
          · exact Or.inr e
          · exact Or.inl (Or.inr ⟨by omega, h2⟩)
    · cases hb : F.testBit x
      · refine s2 x hxn ((hbN' x).mpr ?_)
        by_cases e : k + 1 = x
        · exact Or.inr e
        · exact Or.inl ((hNF x hxn).mpr (Or.inr ⟨by omega, hb⟩))
      · exact s3 x hxn hb
    · have a1 := hM M hM1 hM2
      have a2 := sm_half M (k + 1)
      omega
  · have e : p_smf n (nI m) (k + 1) (nI N, nI F, σ) = (nI N, nI (F ||| 2 ^ (k + 1)), (p_lw n (nI (N ||| 2 ^ (k + 1))) (nI F) σ).2) := by
      unfold p_smf
      try dsimp only
      rw [eN, eF, if_pos c]
    rw [e]
    have hS0k : S0 (k + 1) = true := by
      cases hb : S0 (k + 1)
      · exact absurd (fits S0 hS0 hb hS0F) c
      · rfl
    have hbF2 : ∀ x, (F ||| 2 ^ (k + 1)).testBit x = (F.testBit x || decide (k + 1 = x)) := fun x => by rw [Nat.testBit_or, Nat.testBit_two_pow]
    refine ⟨N, F ||| 2 ^ (k + 1), rfl, rfl, 2 * G + 1, ?_, Nat.or_lt_two_pow hF hp, hN, fun x hx => ?_, ⟨S0, hS0, fun x hx hxn => ?_⟩, fun M hM1 hM2 => ?_⟩
    · rw [hG, ← Nat.two_pow_add_eq_or_of_lt (Nat.pow_lt_pow_right (by decide) (by omega)) G, Nat.mul_add, Nat.mul_one, ← Nat.mul_assoc]
      congr 2
    · rw [hNF x hx, hbF2]
      constructor
      · rintro (h1 | ⟨h1, h2⟩)
        · exact Or.inl h1
        · exact Or.inr ⟨by omega, by rw [h2, decide_eq_false (by omega)]; rfl⟩
      · rintro (h1 | ⟨h1, h2⟩)
        · exact Or.inl h1
        · rw [Bool.or_eq_false_iff] at h2
          have := of_decide_eq_false h2.2
          exact Or.inr ⟨by omega, h2.1⟩
    · rw [hbF2]
      by_cases e : k + 1 = x
      · rw [← e, hS0k, decide_eq_true rfl, Bool.or_true]
      · rw [decide_eq_false e, Bool.or_false]
        exact hS0F x (by omega) hxn
    · have a1 := hM M hM1 hM2
      have a2 := sm_half M (k + 1)
      by_cases e : M / 2 ^ (k + 1 + 1) = G
      · have hb : M.testBit (k + 1) = true := by
          cases hb : M.testBit (k + 1)
          · exact absurd (fits _ hM2 hb (fun x hx _ => hMF M x e hx)) c
          · rfl
        rw [if_pos hb] at a2
        omega
      · omega
theorem sm_I_loop {n m : Nat} {σ : g_St} (h2 : 2 ≤ n) (hn : n ≤ 9) (hok : g_OK (σ 1) (σ 2)) (hm : m ≤ 4050) (hmin : ∀ S, GL n (g_V (-1)) (σ 2) S → NT n (g_V (-1)) S → m ≤ ct n (g_V (-1)) (g_w (σ 1)) S) : ∀ (k N F : Nat) (ρ : g_St), k < n → g_kp σ ρ → sm_I n (σ 2) (g_w (σ 1)) m k N F → ∃ N' F', (p_smr n (nI m) k (nI N, nI F, ρ)).2.1 = nI F' ∧ sm_I n (σ 2) (g_w (σ 1)) m 0 N' F' := by
  intro k
  induction k with
  | zero => intro N F ρ _ _ h; exact ⟨N, F, rfl, h⟩
  | succ k ih =>
    intro N F ρ hk hkp h
    obtain ⟨k1, k2⟩ := hkp
    have step := sm_I_step (σ := ρ) (N := N) (F := F) h2 hn (by rw [k1, k2]; exact hok) hm (by rw [k1, k2]; exact hmin) hk (by rw [k1, k2]; exact h)
    obtain ⟨N', F', e1, e2, h'⟩ := step
    rw [k1, k2] at h'
    have hkp' : g_kp σ (p_smf n (nI m) (k + 1) (nI N, nI F, ρ)).2.2 := (show g_kp σ ρ from ⟨k1, k2⟩).tr (p_smf_kp (q := (nI N, nI F, ρ)))
    have e : p_smf n (nI m) (k + 1) (nI N, nI F, ρ) = (nI N', nI F', (p_smf n (nI m) (k + 1) (nI N, nI F, ρ)).2.2) := by
      rw [← e1, ← e2]
    show ∃ N' F', (p_smr n (nI m) k (p_smf n (nI m) (k + 1) (nI N, nI F, ρ))).2.1 = nI F' ∧ _
    rw [e]
    exact ih N' F' _ (by omega) hkp' h'
/-- the model's search -/
theorem r_smr_spec {n : Nat} {τ : g_St} {least : Int32} {j : Nat} (hj : r_al n (nI (2 * j + 2)) (-1) τ = least) (h3 : ¬ least = -3) : ∀ (k i : Nat), i ≤ j → j < i + k → (∀ i', i' < j → ¬ r_al n (nI (2 * i' + 2)) (-1) τ = least) → r_smr n τ least k i = nI (2 * j + 2) := by
  intro k
  induction k with
  | zero => intro i h1 h2; omega
  | succ k ih =>
    intro i h1 h2 h4
    by_cases e : i = j
    · subst e
      rw [r_smr, hj, if_neg h3, if_neg (not_not_intro rfl)]
    · have e2 : r_smr n τ least (k + 1) i = r_smr n τ least k (i + 1) := by
        rw [r_smr]
        split
        · rfl
        · rw [if_pos (h4 i (by omega))]
      rw [e2]
      exact ih (i + 1) (by omega) (by omega) h4
theorem r_smr_none {n : Nat} {τ : g_St} : ∀ (k i : Nat), r_smr n τ (-3) k i = -3 := by
  intro k
  induction k with
  | zero => intro i; rfl
  | succ k ih =>
    intro i
    rw [r_smr]
    split
    · exact ih _
    · exact ih _
theorem law_sm {n : Nat} {σ τ : g_St} (h2 : 2 ≤ n) (h9 : n ≤ 9) (h : g_I σ τ) : (p_sm n σ).1 = r_sm n τ := by
  have hv := law_least h2 h9 h
  obtain ⟨hok, t1, t2⟩ := h
  have hokτ : g_OK (τ 1) (τ 2) := by rw [t1, t2]; exact hok
  have hp : 2 ^ n ≤ 2 ^ 9 := Nat.pow_le_pow_right (by decide) h9
  have hws : ∀ u v, u < n → v < n → g_w (σ 1) u v = g_w (σ 1) v u := fun u v hu hv => g_w_s hok (by omega) (by omega)
  have hcl : ∀ S, ct n (g_V (-1)) (g_w (σ 1)) S ≤ 4050 := fun S => ct_le h9 (fun u v hu hv => g_w_le hok (by omega) (by omega))
  unfold p_sm r_sm
  rw [← hv]
  have hmin := q_prep (skip := -1) h9 hok
  have hmin : MinOf (fun S => GL n (g_V (-1)) (σ 2) S ∧ NT n (g_V (-1)) S) (ct n (g_V (-1)) (g_w (σ 1))) (p_least n σ).1 := hmin
  rcases hmin with ⟨a1, -⟩ | ⟨S, ⟨a1, a2⟩, a3, a4⟩
  · rw [if_neg (not_not_intro a1)]
    rw [a1, r_smr_none]
  · have hcS := hcl S
    have h3 : ¬ (p_least n σ).1 = -3 := by rw [a3]; exact nI_m3 (by omega)
    rw [if_pos h3]
    show (p_smr n (p_least n σ).1 (n - 1) (1, 0, (p_least n σ).2)).2.1 = _
    rw [a3] at h3 ⊢
    generalize em : ct n (g_V (-1)) (g_w (σ 1)) S = m at a4 hcS h3
    have hmin' : ∀ T, GL n (g_V (-1)) (σ 2) T → NT n (g_V (-1)) T → m ≤ ct n (g_V (-1)) (g_w (σ 1)) T := fun T b1 b2 => a4 T ⟨b1, b2⟩
    have start : sm_I n (σ 2) (g_w (σ 1)) m (n - 1) 1 0 := by
      have hS : ∃ T, sm_O n (σ 2) (g_w (σ 1)) m T := by
        cases hb : S 0
        · exact ⟨S, a1, a2, em, hb⟩
        · exact ⟨fun x => !S x, GL_flip a1, NT_flip a2, by rw [ct_flip hws]; exact em, by (try dsimp only); rw [hb]; rfl⟩
      obtain ⟨T, hT⟩ := hS
      refine ⟨0, by rw [Nat.mul_zero], Nat.two_pow_pos n, Nat.one_lt_two_pow (by omega), fun x hx => ?_, ⟨T, hT, fun x h1 h2 => by omega⟩, fun M _ _ => Nat.zero_le _⟩
      rw [Nat.testBit_one_eq_true_iff_self_eq_zero]
      exact ⟨fun h => Or.inl h, fun h => h.resolve_right (fun h => by omega)⟩
    obtain ⟨N, F, e1, G, hG, hF, -, -, ⟨T, hT, hTF⟩, hM⟩ := sm_I_loop h2 h9 hok hcS hmin' (n - 1) 1 0 (p_least n σ).2 (by omega) p_least_kp start
    have e1 : (p_smr n (nI m) (n - 1) (1, 0, (p_least n σ).2)).2.1 = nI F := e1
    rw [e1]
    have hG2 : F = 2 * G := hG
    have hOF : sm_O n (σ 2) (g_w (σ 1)) m (fun x => F.testBit x) := by
      refine sm_O_congr (by omega) (fun x hx => ?_) hT
      by_cases e : x = 0
      · subst e
        rw [hT.2.2.2, Nat.testBit_zero, decide_eq_false (by omega)]
      · exact hTF x (by omega) hx
    -- a mask's answer
    have hal : ∀ M, M < 2 ^ n → M % 2 = 0 → (r_al n (nI M) (-1) τ = nI m ↔ sm_O n (σ 2) (g_w (σ 1)) m (fun x => M.testBit x)) := by
      intro M hM1 hM0
      have bM : ∀ x, x < n → g_bt (nI M) x = M.testBit x := fun x hx => g_bt_nI (by omega) (by omega)
      have hc := r_al_spec (τ := τ) (mask := nI M) (out := -1) h9 hokτ
      rw [t1, t2] at hc
      constructor
      · intro e
        rcases hc with ⟨b1, b2, b3⟩ | ⟨b1, b2⟩
        · refine sm_O_congr (S := g_bt (nI M)) (by omega) bM ⟨b1, b2, ?_, ?_⟩
          · have := hcl (g_bt (nI M))
            exact (nI_eq (by omega) (by omega)).mp (b3.symm.trans e)
          · rw [bM 0 (by omega), Nat.testBit_zero, decide_eq_false (by omega)]
        · exact absurd (e.symm.trans b2) h3
      · intro hO
        have hO' := sm_O_congr (T := g_bt (nI M)) (by omega) (fun x hx => (bM x hx).symm) hO
        rcases hc with ⟨b1, b2, b3⟩ | ⟨b1, b2⟩
        · rw [b3, hO'.2.2.1]
        · exact absurd ⟨hO'.1, hO'.2.1⟩ b1
    have hF0 : ¬ F = 0 := by
      intro e
      obtain ⟨⟨u, -, -, hu⟩, -⟩ := hOF.2.1
      try dsimp only at hu
      rw [e, Nat.zero_testBit] at hu
      cases hu
    have hj : F = 2 * (G - 1) + 2 := by omega
    have hpn : 2 ^ n = 2 * 2 ^ (n - 1) := by
      rw [← Nat.pow_succ']
      congr 1; omega
    rw [hj]
    refine (r_smr_spec (j := G - 1) ?_ h3 _ 0 (Nat.zero_le _) (by omega) (fun i' hi' e => ?_)).symm
    · rw [← hj]
      exact (hal F hF (by omega)).mpr hOF
    · have hO := (hal (2 * i' + 2) (by omega) (by omega)).mp e
      have := hM (2 * i' + 2) (by omega) hO
      have e2 : (2 * i' + 2) / 2 ^ (0 + 1) = i' + 1 := by
        show (2 * i' + 2) / 2 = i' + 1
        omega
      omega
end
section
-- ===== end of PART A; then your names; then what follows =====
/-! THE CLAIM OUT OF ONE WALK OF THE LAW'S BODY. Your part is whole_start (and what it stands on); all else here is the same for every law, but numbers. -/
def R_law : String := "GlobalMinCutLaw"
def lw_P (b : Addr) (xs : List Int32) (args : Array Value) (s : State) : Prop := args = #[.ref b] ∧ s.IntsAt b xs ∧ xs.length ≤ 257 ∧ (Jvm.Cond.and given_1 narrow_1).before args s = true
def lw_Q (_ : Array Value) (s : State) (o : Outcome) (t : State) : Prop := o = .returned (some (.int 1)) ∧ Framed s o t [] 600000 7290000
def lw_Z (below : List Frame) (a : Array Value) (s : State) : State → Prop := fun t => ∃ o, t.status = .running ∧ Ended t below o ∧ lw_Q a s o t
/-- the law's own end, with 1 on the stack, nothing written that was there before, its room as the claim has it -/
theorem lw_ret {p : Program} {l : Launch} {e : Env} {s : State} {m : MethodId} {below : List Frame} {meth : Method} {c : Code} {b : Nat} (hx : p.tables.exec = Jvm.exec) (hb : c.code = code) (hr : meth.sig.returnType = ret) (hlocks : meth.locks = false) {pc : Nat} {H : Heap} {ls : Array Slot} (hdg : decode code pc = .ok (.ireturn, 1)) : W p l e room_1 s m #[Value.ref b] below meth c H [] 600000 7290000 (lw_Z below #[Value.ref b] s) (F0 m pc ls [.int 1]) := by
  intro T hT X
  obtain ⟨fs, hret, hrun, hended, hW, hframe⟩ := X.leave (v := some (.int 1)) (hlocks := hlocks) (fun h => by rw [hr] at h; cases h)
  have hmeth' : T.vm.method? m = some meth := X.method'
  refine ⟨T.setFrames fs, ?_, .returned (some (.int 1)), hrun, hended, rfl, ⟨_, rfl⟩, hW, hframe⟩
  jvm_step X.here [X.here.top, hx, hb, hdg, hmeth', hr, ret, narrow_b1]
  (try refine ⟨rfl, ?_⟩); (try refine ⟨rfl, ?_⟩)
  first | (intro acts; rw [hret _ acts rfl rfl rfl]) | rw [hret _ _ rfl rfl rfl]
  exact Steps.refl _
/-- what holds at the law's entry: the machine, the code, the tables' words (any of lw_tbl by 'hts w (by decide +kernel)'), the script of L ints xs at the cell b, what the Statement gives of the start (any of its parts by flat_of_before) -/
def lw_At (p : Program) (s : State) (m : MethodId) (meth : Method) (c : Code) (b L : Nat) (xs : Nat → Int32) : Prop :=
  p.tables.exec = Jvm.exec ∧ c.code = code ∧ meth.sig.returnType = ret ∧ c.maxLocals = 4 ∧ s.vm.findClass R_law = some m.cls ∧ (∀ w ∈ lw_tbl, w.before #[Value.ref b] s = true) ∧ va_X b L xs s s.heap ∧ b < s.heap.size ∧ meth.locks = false ∧ (Jvm.Cond.and given_1 narrow_1).before #[Value.ref b] s = true
end
section
set_option maxRecDepth 100000
theorem law_ch {n : Nat} {σ τ : g_St} {u v x : Int32} (hn : n ≤ 9) (h : g_I σ τ) : (p_ch n u v x σ).1 = (r_ch n u v x τ).1 ∧ g_I (p_ch n u v x σ).2 (r_ch n u v x τ).2 := by
  obtain ⟨h1, h2, h3⟩ := h
  unfold p_ch r_ch
  by_cases c : p_bp n u v = 0
  · rw [if_pos c, if_pos c]
    obtain ⟨⟨a, ha, rfl⟩, ⟨b, hb, rfl⟩, hne⟩ := p_bp_0 hn c
    rw [nx_nI (by omega), nx_nI (by omega)]
    obtain ⟨y, hy, ey⟩ := (h1.1 a b (by omega) (by omega)).1
    have e : p_chv (σ 1 (a * 9 + b)) x = r_chv (τ 1 (a * 9 + b)) x := by rw [h2, ey]; exact (law_chv hy).1
    obtain ⟨z, hz, ez⟩ := (law_chv (x := x) hy).2
    refine ⟨e, ?_, ?_, ?_⟩
    · rw [ey, ez]
      exact g_OK_w h1 (by omega) (by omega) (fun e => hne (by rw [e])) hz
    · show upd (upd (τ 1) _ _) _ _ = upd (upd (σ 1) _ _) _ _
      rw [← e, h2]
    · exact h3
  · rw [if_neg c, if_neg c]; exact ⟨rfl, h1, h2, h3⟩
set_option maxHeartbeats 4000000 in
theorem w_law {p : Program} {l : Launch} {e : Env} {s : State} {m : MethodId} {below : List Frame} {meth : Method} {c : Code} {D : va_G} {dI dZ : ClassId} {h1 h2 n b L : Nat} {a1 a2 : Nat → Nat} {xs : Nat → Int32} (C : g_C RX0 p s m #[Value.ref b] c code 4 D dI dZ) (hr : meth.sig.returnType = ret) (hlk : meth.locks = false) (hX : va_X b L xs s s.heap) (hbl : b < s.heap.size) (hL : L ≤ 257) (hn2 : 2 ≤ n) (hn : n ≤ 9) : ∀ (k i : Nat) (σ τ : g_St) (H : Heap) (locs : List Loc) (ls : Array Slot), L < i + 4 * k → i ≤ 300 → g_I σ τ → g_L D dI dZ (fun q : Nat => s.heap.size ≤ q) s.heap h1 a1 h2 a2 n σ τ H locs → lv_has ls 4 [(0, .ref b), (1, .ref h1), (2, .ref h2), (3, .int (nI i))] → W p l e room_1 s m #[Value.ref b] below meth c H locs 600000 7290000 (lw_Z below #[Value.ref b] s) (F0 m 28 ls []) := by
  have hA : ∀ q : Nat, s.heap.size ≤ q → (fun q : Nat => s.heap.size ≤ q) q := fun _ h => h
  have hbA : ¬ (fun q : Nat => s.heap.size ≤ q) b := Nat.not_le.mpr hbl
  intro k
  induction k with
  | zero =>
    intro i σ τ H locs ls hk hi hI G hl
    refine lv_iload_n C.x C.b dL_law_28 rfl (lv_at hl 3 rfl) ?_
    refine lv_aload_n C.x C.b dL_law_29 rfl (lv_at hl 0 rfl) ?_
    refine va_slen C.x C.b hX hbl hbA G.2.2 dL_law_30 ?_
    refine lv_iconst (v := 4) C.x C.b dL_law_31 (by decide) ?_
    refine lv_isub C.x C.b dL_law_32 ?_
    refine lv_icmp_gt (tgt := 361) C.x C.b dL_law_33 (by decide) (fun c33 => ?_) (fun c33 => ?_)
    · refine lv_iconst (v := 1) C.x C.b dL_law_361 (by decide) ?_
      refine va_forget (fun q hq => G.2.2.2.2 q hq) ?_
      exact lw_ret C.x C.b hr hlk dL_law_362
    · have hle : i + 4 ≤ L := by
        have h1 : (nI i).toInt ≤ (nI L - nI 4).toInt := Int32.le_iff_toInt_le.mp (Int32.not_lt.mp c33)
        rw [pk_sub_toInt (by omega) (by omega), nI_toInt (by omega)] at h1
        omega
      exact absurd hle (by omega)
  | succ k ih =>
    intro i σ τ H locs ls hk hi hI G hl
    refine lv_iload_n C.x C.b dL_law_28 rfl (lv_at hl 3 rfl) ?_
    refine lv_aload_n C.x C.b dL_law_29 rfl (lv_at hl 0 rfl) ?_
    refine va_slen C.x C.b hX hbl hbA G.2.2 dL_law_30 ?_
    refine lv_iconst (v := 4) C.x C.b dL_law_31 (by decide) ?_
    refine lv_isub C.x C.b dL_law_32 ?_
    refine lv_icmp_gt (tgt := 361) C.x C.b dL_law_33 (by decide) (fun c33 => ?_) (fun c33 => ?_)
    · refine lv_iconst (v := 1) C.x C.b dL_law_361 (by decide) ?_
      refine va_forget (fun q hq => G.2.2.2.2 q hq) ?_
      exact lw_ret C.x C.b hr hlk dL_law_362
    · have hle : i + 4 ≤ L := by
        have h1 : (nI i).toInt ≤ (nI L - nI 4).toInt := Int32.le_iff_toInt_le.mp (Int32.not_lt.mp c33)
        rw [pk_sub_toInt (by omega) (by omega), nI_toInt (by omega)] at h1
        omega
      have K : ∀ (σ τ : g_St) (H : Heap) (locs : List Loc) (ls : Array Slot), g_I σ τ → g_L D dI dZ (fun q : Nat => s.heap.size ≤ q) s.heap h1 a1 h2 a2 n σ τ H locs → lv_has ls 4 [(0, .ref b), (1, .ref h1), (2, .ref h2), (3, .int (nI i))] → W p l e room_1 s m #[Value.ref b] below meth c H locs 600000 7290000 (lw_Z below #[Value.ref b] s) (F0 m 355 ls []) := by
        intro σ τ H locs ls hI G hl
        refine lv_iinc (v := (nI (i + 4))) (lv' := [(3, .int (nI (i + 4))), (0, .ref b), (1, .ref h1), (2, .ref h2)]) C.x C.b dL_law_355 hl (k := 3) rfl (nI_add i 4) (by decide) rfl (fun ls hl => ?_)
        refine lv_goto (tgt := 28) C.x C.b dL_law_358 (by decide) ?_
        exact ih (i + 4) σ τ H locs ls (by omega) (by omega) hI G (lv_sub hl [1, 2, 3, 0] rfl)
      refine lv_aload_n C.x C.b dL_law_36 rfl (lv_at hl 0 rfl) ?_
      refine lv_iload_n C.x C.b dL_law_37 rfl (lv_at hl 3 rfl) ?_
      refine g_scr C G hX hbl hbA i (by omega) hL rfl dL_law_38 ?_
      refine lv_bipush (v := 15) C.x C.b dL_law_39 (by decide) ?_
      refine lv_iand C.x C.b dL_law_41 ?_
      obtain ⟨j, hj, ej⟩ := pk_andE (xs i) (m := 15) 4 (by decide)
      rw [ej]
      rcases (show j = 0 ∨ j = 1 ∨ j = 2 ∨ j = 3 ∨ j = 4 ∨ j = 5 ∨ j = 6 ∨ j = 7 ∨ j = 8 ∨ 9 ≤ j by omega) with rfl | rfl | rfl | rfl | rfl | rfl | rfl | rfl | rfl | h9
      · refine lv_tableIn (tgt := 92) C.x C.b dL_law_42 (by decide) (by decide) (show _ = some (50 : Int) by decide) (by decide) ?_
        refine lv_aload_n C.x C.b dL_law_92 rfl (lv_at hl 1 rfl) ?_
        refine lv_aload_n C.x C.b dL_law_93 rfl (lv_at hl 0 rfl) ?_
        refine lv_iload_n C.x C.b dL_law_94 rfl (lv_at hl 3 rfl) ?_
        refine lv_iconst (v := 1) C.x C.b dL_law_95 (by decide) ?_
        refine lv_iadd C.x C.b dL_law_96 ?_
        refine g_scr C G hX hbl hbA (i + 1) (by omega) hL (nI_add i 1) dL_law_97 ?_
        refine lv_aload_n C.x C.b dL_law_98 rfl (lv_at hl 0 rfl) ?_
        refine lv_iload_n C.x C.b dL_law_99 rfl (lv_at hl 3 rfl) ?_
        refine lv_iconst (v := 2) C.x C.b dL_law_100 (by decide) ?_
        refine lv_iadd C.x C.b dL_law_101 ?_
        refine g_scr C G hX hbl hbA (i + 2) (by omega) hL (nI_add i 2) dL_law_102 ?_
        refine lv_aload_n C.x C.b dL_law_103 rfl (lv_at hl 0 rfl) ?_
        refine lv_iload_n C.x C.b dL_law_104 rfl (lv_at hl 3 rfl) ?_
        refine lv_iconst (v := 3) C.x C.b dL_law_105 (by decide) ?_
        refine lv_iadd C.x C.b dL_law_106 ?_
        refine g_scr C G hX hbl hbA (i + 3) (by omega) hL (nI_add i 3) dL_law_107 ?_
        refine g_lc1 (As := [.int (xs (i + 1)), .int (xs (i + 2)), .int (xs (i + 3))]) (rest := []) C G hA (m1_weight l D dI dZ h1 a1 n hn σ (xs (i + 1)) (xs (i + 2)) (xs (i + 3))) (cw01_weight C.t (by decide) (by decide)) rfl hl.1 (Nat.le_of_ble_eq_true rfl) rfl (Nat.le_of_ble_eq_true rfl) (Nat.le_of_ble_eq_true rfl) dL_law_108 (fun r σ1 H locs hw G => ?_)
        obtain ⟨e1, e2⟩ := hw
        obtain ⟨r1, er1⟩ : ∃ z, z = r := ⟨_, rfl⟩
        rw [← er1]
        refine lv_aload_n C.x C.b dL_law_111 rfl (lv_at hl 2 rfl) ?_
        refine lv_aload_n C.x C.b dL_law_112 rfl (lv_at hl 0 rfl) ?_
        refine lv_iload_n C.x C.b dL_law_113 rfl (lv_at hl 3 rfl) ?_
        refine lv_iconst (v := 1) C.x C.b dL_law_114 (by decide) ?_
        refine lv_iadd C.x C.b dL_law_115 ?_
        refine g_scr C G hX hbl hbA (i + 1) (by omega) hL (nI_add i 1) dL_law_116 ?_
        refine lv_aload_n C.x C.b dL_law_117 rfl (lv_at hl 0 rfl) ?_
        refine lv_iload_n C.x C.b dL_law_118 rfl (lv_at hl 3 rfl) ?_
        refine lv_iconst (v := 2) C.x C.b dL_law_119 (by decide) ?_
        refine lv_iadd C.x C.b dL_law_120 ?_
        refine g_scr C G hX hbl hbA (i + 2) (by omega) hL (nI_add i 2) dL_law_121 ?_
        refine lv_aload_n C.x C.b dL_law_122 rfl (lv_at hl 0 rfl) ?_
        refine lv_iload_n C.x C.b dL_law_123 rfl (lv_at hl 3 rfl) ?_
        refine lv_iconst (v := 3) C.x C.b dL_law_124 (by decide) ?_
        refine lv_iadd C.x C.b dL_law_125 ?_
        refine g_scr C G hX hbl hbA (i + 3) (by omega) hL (nI_add i 3) dL_law_126 ?_
        refine g_lc2 (As := [.int (xs (i + 1)), .int (xs (i + 2)), .int (xs (i + 3))]) (rest := [.int r1]) C G hA (m2_weight l D dI dZ h2 a2 n hn τ (xs (i + 1)) (xs (i + 2)) (xs (i + 3))) (cw02_weight C.t (by decide) (by decide)) rfl hl.1 (Nat.le_of_ble_eq_true rfl) rfl (Nat.le_of_ble_eq_true rfl) (Nat.le_of_ble_eq_true rfl) dL_law_127 (fun r τ1 H locs hw G => ?_)
        obtain ⟨e3, e4⟩ := hw
        have hlw := law_wt (u := (xs (i + 1))) (v := (xs (i + 2))) (x := (xs (i + 3))) hn hI
        refine lv_icmp_eq (tgt := 355) C.x C.b dL_law_130 (by decide) (fun _ => ?_) (fun hq => absurd (by rw [er1, e1, e3]; exact hlw.1) hq)
        exact K σ1 τ1 H locs ls (by rw [e2, e4]; exact hlw.2) G hl
      · refine lv_tableIn (tgt := 135) C.x C.b dL_law_42 (by decide) (by decide) (show _ = some (93 : Int) by decide) (by decide) ?_
        refine lv_aload_n C.x C.b dL_law_135 rfl (lv_at hl 1 rfl) ?_
        refine lv_aload_n C.x C.b dL_law_136 rfl (lv_at hl 0 rfl) ?_
        refine lv_iload_n C.x C.b dL_law_137 rfl (lv_at hl 3 rfl) ?_
        refine lv_iconst (v := 1) C.x C.b dL_law_138 (by decide) ?_
        refine lv_iadd C.x C.b dL_law_139 ?_
        refine g_scr C G hX hbl hbA (i + 1) (by omega) hL (nI_add i 1) dL_law_140 ?_
        refine lv_aload_n C.x C.b dL_law_141 rfl (lv_at hl 0 rfl) ?_
        refine lv_iload_n C.x C.b dL_law_142 rfl (lv_at hl 3 rfl) ?_
        refine lv_iconst (v := 2) C.x C.b dL_law_143 (by decide) ?_
        refine lv_iadd C.x C.b dL_law_144 ?_
        refine g_scr C G hX hbl hbA (i + 2) (by omega) hL (nI_add i 2) dL_law_145 ?_
        refine lv_aload_n C.x C.b dL_law_146 rfl (lv_at hl 0 rfl) ?_
        refine lv_iload_n C.x C.b dL_law_147 rfl (lv_at hl 3 rfl) ?_
        refine lv_iconst (v := 3) C.x C.b dL_law_148 (by decide) ?_
        refine lv_iadd C.x C.b dL_law_149 ?_
        refine g_scr C G hX hbl hbA (i + 3) (by omega) hL (nI_add i 3) dL_law_150 ?_
        refine g_lc1 (As := [.int (xs (i + 1)), .int (xs (i + 2)), .int (xs (i + 3))]) (rest := []) C G hA (m1_change l D dI dZ h1 a1 n hn σ (xs (i + 1)) (xs (i + 2)) (xs (i + 3))) (cw01_change C.t (by decide) (by decide)) rfl hl.1 (Nat.le_of_ble_eq_true rfl) rfl (Nat.le_of_ble_eq_true rfl) (Nat.le_of_ble_eq_true rfl) dL_law_151 (fun r σ1 H locs hw G => ?_)
        obtain ⟨e1, e2⟩ := hw
        obtain ⟨r1, er1⟩ : ∃ z, z = r := ⟨_, rfl⟩
        rw [← er1]
        refine lv_aload_n C.x C.b dL_law_154 rfl (lv_at hl 2 rfl) ?_
        refine lv_aload_n C.x C.b dL_law_155 rfl (lv_at hl 0 rfl) ?_
        refine lv_iload_n C.x C.b dL_law_156 rfl (lv_at hl 3 rfl) ?_
        refine lv_iconst (v := 1) C.x C.b dL_law_157 (by decide) ?_
        refine lv_iadd C.x C.b dL_law_158 ?_
        refine g_scr C G hX hbl hbA (i + 1) (by omega) hL (nI_add i 1) dL_law_159 ?_
        refine lv_aload_n C.x C.b dL_law_160 rfl (lv_at hl 0 rfl) ?_
        refine lv_iload_n C.x C.b dL_law_161 rfl (lv_at hl 3 rfl) ?_
        refine lv_iconst (v := 2) C.x C.b dL_law_162 (by decide) ?_
        refine lv_iadd C.x C.b dL_law_163 ?_
        refine g_scr C G hX hbl hbA (i + 2) (by omega) hL (nI_add i 2) dL_law_164 ?_
        refine lv_aload_n C.x C.b dL_law_165 rfl (lv_at hl 0 rfl) ?_
        refine lv_iload_n C.x C.b dL_law_166 rfl (lv_at hl 3 rfl) ?_
        refine lv_iconst (v := 3) C.x C.b dL_law_167 (by decide) ?_
        refine lv_iadd C.x C.b dL_law_168 ?_
        refine g_scr C G hX hbl hbA (i + 3) (by omega) hL (nI_add i 3) dL_law_169 ?_
        refine g_lc2 (As := [.int (xs (i + 1)), .int (xs (i + 2)), .int (xs (i + 3))]) (rest := [.int r1]) C G hA (m2_change l D dI dZ h2 a2 n hn τ (xs (i + 1)) (xs (i + 2)) (xs (i + 3))) (cw02_change C.t (by decide) (by decide)) rfl hl.1 (Nat.le_of_ble_eq_true rfl) rfl (Nat.le_of_ble_eq_true rfl) (Nat.le_of_ble_eq_true rfl) dL_law_170 (fun r τ1 H locs hw G => ?_)
        obtain ⟨e3, e4⟩ := hw
        have hlw := law_ch (u := (xs (i + 1))) (v := (xs (i + 2))) (x := (xs (i + 3))) hn hI
        refine lv_icmp_eq (tgt := 355) C.x C.b dL_law_173 (by decide) (fun _ => ?_) (fun hq => absurd (by rw [er1, e1, e3]; exact hlw.1) hq)
        exact K σ1 τ1 H locs ls (by rw [e2, e4]; exact hlw.2) G hl
      · refine lv_tableIn (tgt := 178) C.x C.b dL_law_42 (by decide) (by decide) (show _ = some (136 : Int) by decide) (by decide) ?_
        refine lv_aload_n C.x C.b dL_law_178 rfl (lv_at hl 1 rfl) ?_
        refine lv_aload_n C.x C.b dL_law_179 rfl (lv_at hl 0 rfl) ?_
        refine lv_iload_n C.x C.b dL_law_180 rfl (lv_at hl 3 rfl) ?_
        refine lv_iconst (v := 1) C.x C.b dL_law_181 (by decide) ?_
        refine lv_iadd C.x C.b dL_law_182 ?_
        refine g_scr C G hX hbl hbA (i + 1) (by omega) hL (nI_add i 1) dL_law_183 ?_
        refine lv_aload_n C.x C.b dL_law_184 rfl (lv_at hl 0 rfl) ?_
        refine lv_iload_n C.x C.b dL_law_185 rfl (lv_at hl 3 rfl) ?_
        refine lv_iconst (v := 2) C.x C.b dL_law_186 (by decide) ?_
        refine lv_iadd C.x C.b dL_law_187 ?_
        refine g_scr C G hX hbl hbA (i + 2) (by omega) hL (nI_add i 2) dL_law_188 ?_
        refine lv_aload_n C.x C.b dL_law_189 rfl (lv_at hl 0 rfl) ?_
        refine lv_iload_n C.x C.b dL_law_190 rfl (lv_at hl 3 rfl) ?_
        refine lv_iconst (v := 3) C.x C.b dL_law_191 (by decide) ?_
        refine lv_iadd C.x C.b dL_law_192 ?_
        refine g_scr C G hX hbl hbA (i + 3) (by omega) hL (nI_add i 3) dL_law_193 ?_
        refine lv_if_eq (tgt := 201) C.x C.b dL_law_194 (by decide) (fun c194 => ?_) (fun c194 => ?_)
        · refine lv_iconst (v := 0) C.x C.b dL_law_201 (by decide) ?_
          refine g_lc1 (As := [.int (xs (i + 1)), .int (xs (i + 2)), .int 0]) (rest := []) C G hA (m1_glue l D dI dZ h1 a1 n hn σ (xs (i + 1)) (xs (i + 2)) 0 g_z0) (cw01_glue C.t (by decide) (by decide)) rfl hl.1 (Nat.le_of_ble_eq_true rfl) rfl (Nat.le_of_ble_eq_true rfl) (Nat.le_of_ble_eq_true rfl) dL_law_202 (fun r σ1 H locs hw G => ?_)
          obtain ⟨e1, e2⟩ := hw
          obtain ⟨r1, er1⟩ : ∃ z, z = r := ⟨_, rfl⟩
          rw [← er1]
          refine lv_aload_n C.x C.b dL_law_205 rfl (lv_at hl 2 rfl) ?_
          refine lv_aload_n C.x C.b dL_law_206 rfl (lv_at hl 0 rfl) ?_
          refine lv_iload_n C.x C.b dL_law_207 rfl (lv_at hl 3 rfl) ?_
          refine lv_iconst (v := 1) C.x C.b dL_law_208 (by decide) ?_
          refine lv_iadd C.x C.b dL_law_209 ?_
          refine g_scr C G hX hbl hbA (i + 1) (by omega) hL (nI_add i 1) dL_law_210 ?_
          refine lv_aload_n C.x C.b dL_law_211 rfl (lv_at hl 0 rfl) ?_
          refine lv_iload_n C.x C.b dL_law_212 rfl (lv_at hl 3 rfl) ?_
          refine lv_iconst (v := 2) C.x C.b dL_law_213 (by decide) ?_
          refine lv_iadd C.x C.b dL_law_214 ?_
          refine g_scr C G hX hbl hbA (i + 2) (by omega) hL (nI_add i 2) dL_law_215 ?_
          refine lv_aload_n C.x C.b dL_law_216 rfl (lv_at hl 0 rfl) ?_
          refine lv_iload_n C.x C.b dL_law_217 rfl (lv_at hl 3 rfl) ?_
          refine lv_iconst (v := 3) C.x C.b dL_law_218 (by decide) ?_
          refine lv_iadd C.x C.b dL_law_219 ?_
          refine g_scr C G hX hbl hbA (i + 3) (by omega) hL (nI_add i 3) dL_law_220 ?_
          refine lv_if_eq (tgt := 228) C.x C.b dL_law_221 (by decide) (fun _ => ?_) (fun hq => absurd c194 hq)
          refine lv_iconst (v := 0) C.x C.b dL_law_228 (by decide) ?_
          refine g_lc2 (As := [.int (xs (i + 1)), .int (xs (i + 2)), .int 0]) (rest := [.int r1]) C G hA (m2_glue l D dI dZ h2 a2 n hn τ (xs (i + 1)) (xs (i + 2)) 0 g_z0) (cw02_glue C.t (by decide) (by decide)) rfl hl.1 (Nat.le_of_ble_eq_true rfl) rfl (Nat.le_of_ble_eq_true rfl) (Nat.le_of_ble_eq_true rfl) dL_law_229 (fun r τ1 H locs hw G => ?_)
          obtain ⟨e3, e4⟩ := hw
          have hlw := law_gl (u := (xs (i + 1))) (v := (xs (i + 2))) (x := 0) hn hI
          refine lv_icmp_eq (tgt := 355) C.x C.b dL_law_232 (by decide) (fun _ => ?_) (fun hq => absurd (by rw [er1, e1, e3]; exact hlw.1) hq)
          exact K σ1 τ1 H locs ls (by rw [e2, e4]; exact hlw.2) G hl
        · refine lv_iconst (v := 1) C.x C.b dL_law_197 (by decide) ?_
          refine lv_goto (tgt := 202) C.x C.b dL_law_198 (by decide) ?_
          refine g_lc1 (As := [.int (xs (i + 1)), .int (xs (i + 2)), .int 1]) (rest := []) C G hA (m1_glue l D dI dZ h1 a1 n hn σ (xs (i + 1)) (xs (i + 2)) 1 g_z1) (cw01_glue C.t (by decide) (by decide)) rfl hl.1 (Nat.le_of_ble_eq_true rfl) rfl (Nat.le_of_ble_eq_true rfl) (Nat.le_of_ble_eq_true rfl) dL_law_202 (fun r σ1 H locs hw G => ?_)
          obtain ⟨e1, e2⟩ := hw
          obtain ⟨r1, er1⟩ : ∃ z, z = r := ⟨_, rfl⟩
          rw [← er1]
          refine lv_aload_n C.x C.b dL_law_205 rfl (lv_at hl 2 rfl) ?_
          refine lv_aload_n C.x C.b dL_law_206 rfl (lv_at hl 0 rfl) ?_
          refine lv_iload_n C.x C.b dL_law_207 rfl (lv_at hl 3 rfl) ?_
          refine lv_iconst (v := 1) C.x C.b dL_law_208 (by decide) ?_
          refine lv_iadd C.x C.b dL_law_209 ?_
          refine g_scr C G hX hbl hbA (i + 1) (by omega) hL (nI_add i 1) dL_law_210 ?_
          refine lv_aload_n C.x C.b dL_law_211 rfl (lv_at hl 0 rfl) ?_
          refine lv_iload_n C.x C.b dL_law_212 rfl (lv_at hl 3 rfl) ?_
          refine lv_iconst (v := 2) C.x C.b dL_law_213 (by decide) ?_
          refine lv_iadd C.x C.b dL_law_214 ?_
          refine g_scr C G hX hbl hbA (i + 2) (by omega) hL (nI_add i 2) dL_law_215 ?_
          refine lv_aload_n C.x C.b dL_law_216 rfl (lv_at hl 0 rfl) ?_
          refine lv_iload_n C.x C.b dL_law_217 rfl (lv_at hl 3 rfl) ?_
          refine lv_iconst (v := 3) C.x C.b dL_law_218 (by decide) ?_
          refine lv_iadd C.x C.b dL_law_219 ?_
          refine g_scr C G hX hbl hbA (i + 3) (by omega) hL (nI_add i 3) dL_law_220 ?_
          refine lv_if_eq (tgt := 228) C.x C.b dL_law_221 (by decide) (fun hq => absurd hq c194) (fun _ => ?_)
          refine lv_iconst (v := 1) C.x C.b dL_law_224 (by decide) ?_
          refine lv_goto (tgt := 229) C.x C.b dL_law_225 (by decide) ?_
          refine g_lc2 (As := [.int (xs (i + 1)), .int (xs (i + 2)), .int 1]) (rest := [.int r1]) C G hA (m2_glue l D dI dZ h2 a2 n hn τ (xs (i + 1)) (xs (i + 2)) 1 g_z1) (cw02_glue C.t (by decide) (by decide)) rfl hl.1 (Nat.le_of_ble_eq_true rfl) rfl (Nat.le_of_ble_eq_true rfl) (Nat.le_of_ble_eq_true rfl) dL_law_229 (fun r τ1 H locs hw G => ?_)
          obtain ⟨e3, e4⟩ := hw
          have hlw := law_gl (u := (xs (i + 1))) (v := (xs (i + 2))) (x := 1) hn hI
          refine lv_icmp_eq (tgt := 355) C.x C.b dL_law_232 (by decide) (fun _ => ?_) (fun hq => absurd (by rw [er1, e1, e3]; exact hlw.1) hq)
          exact K σ1 τ1 H locs ls (by rw [e2, e4]; exact hlw.2) G hl
      · refine lv_tableIn (tgt := 237) C.x C.b dL_law_42 (by decide) (by decide) (show _ = some (195 : Int) by decide) (by decide) ?_
        refine lv_aload_n C.x C.b dL_law_237 rfl (lv_at hl 1 rfl) ?_
        refine g_lc1 (As := []) (rest := []) C G hA (m1_least l D dI dZ h1 a1 n hn σ) (cw01_least C.t (by decide) (by decide)) rfl hl.1 (Nat.le_of_ble_eq_true rfl) rfl (Nat.le_of_ble_eq_true rfl) (Nat.le_of_ble_eq_true rfl) dL_law_238 (fun r σ1 H locs hw G => ?_)
        obtain ⟨e1, e2⟩ := hw
        obtain ⟨r1, er1⟩ : ∃ z, z = r := ⟨_, rfl⟩
        rw [← er1]
        refine lv_aload_n C.x C.b dL_law_241 rfl (lv_at hl 2 rfl) ?_
        refine g_lc2 (As := []) (rest := [.int r1]) C G hA (m2_least l D dI dZ h2 a2 n hn τ) (cw02_least C.t (by decide) (by decide)) rfl hl.1 (Nat.le_of_ble_eq_true rfl) rfl (Nat.le_of_ble_eq_true rfl) (Nat.le_of_ble_eq_true rfl) dL_law_242 (fun r τ1 H locs hw G => ?_)
        obtain ⟨e3, e4⟩ := hw
        refine lv_icmp_eq (tgt := 355) C.x C.b dL_law_245 (by decide) (fun _ => ?_) (fun hq => absurd (by rw [er1, e1, e3]; exact (law_least hn2 hn hI)) hq)
        exact K σ1 τ1 H locs ls (by rw [e2, e4]; exact hI.kp p_least_kp) G hl
      · refine lv_tableIn (tgt := 250) C.x C.b dL_law_42 (by decide) (by decide) (show _ = some (208 : Int) by decide) (by decide) ?_
        refine lv_aload_n C.x C.b dL_law_250 rfl (lv_at hl 1 rfl) ?_
        refine g_lc1 (As := []) (rest := []) C G hA (m1_smallest l D dI dZ h1 a1 n hn σ (by omega)) (cw01_smallest C.t (by decide) (by decide)) rfl hl.1 (Nat.le_of_ble_eq_true rfl) rfl (Nat.le_of_ble_eq_true rfl) (Nat.le_of_ble_eq_true rfl) dL_law_251 (fun r σ1 H locs hw G => ?_)
        obtain ⟨e1, e2⟩ := hw
        obtain ⟨r1, er1⟩ : ∃ z, z = r := ⟨_, rfl⟩
        rw [← er1]
        refine lv_aload_n C.x C.b dL_law_254 rfl (lv_at hl 2 rfl) ?_
        refine g_lc2 (As := []) (rest := [.int r1]) C G hA (m2_smallest l D dI dZ h2 a2 n hn τ (by omega)) (cw02_smallest C.t (by decide) (by decide)) rfl hl.1 (Nat.le_of_ble_eq_true rfl) rfl (Nat.le_of_ble_eq_true rfl) (Nat.le_of_ble_eq_true rfl) dL_law_255 (fun r τ1 H locs hw G => ?_)
        obtain ⟨e3, e4⟩ := hw
        refine lv_icmp_eq (tgt := 355) C.x C.b dL_law_258 (by decide) (fun _ => ?_) (fun hq => absurd (by rw [er1, e1, e3]; exact (law_sm hn2 hn hI)) hq)
        exact K σ1 τ1 H locs ls (by rw [e2, e4]; exact hI.kp p_sm_kp) G hl
      · refine lv_tableIn (tgt := 263) C.x C.b dL_law_42 (by decide) (by decide) (show _ = some (221 : Int) by decide) (by decide) ?_
        refine lv_aload_n C.x C.b dL_law_263 rfl (lv_at hl 1 rfl) ?_
        refine lv_aload_n C.x C.b dL_law_264 rfl (lv_at hl 0 rfl) ?_
        refine lv_iload_n C.x C.b dL_law_265 rfl (lv_at hl 3 rfl) ?_
        refine lv_iconst (v := 1) C.x C.b dL_law_266 (by decide) ?_
        refine lv_iadd C.x C.b dL_law_267 ?_
        refine g_scr C G hX hbl hbA (i + 1) (by omega) hL (nI_add i 1) dL_law_268 ?_
        refine lv_aload_n C.x C.b dL_law_269 rfl (lv_at hl 0 rfl) ?_
        refine lv_iload_n C.x C.b dL_law_270 rfl (lv_at hl 3 rfl) ?_
        refine lv_iconst (v := 2) C.x C.b dL_law_271 (by decide) ?_
        refine lv_iadd C.x C.b dL_law_272 ?_
        refine g_scr C G hX hbl hbA (i + 2) (by omega) hL (nI_add i 2) dL_law_273 ?_
        refine g_lc1 (As := [.int (xs (i + 1)), .int (xs (i + 2))]) (rest := []) C G hA (m1_between l D dI dZ h1 a1 n hn σ (xs (i + 1)) (xs (i + 2))) (cw01_between C.t (by decide) (by decide)) rfl hl.1 (Nat.le_of_ble_eq_true rfl) rfl (Nat.le_of_ble_eq_true rfl) (Nat.le_of_ble_eq_true rfl) dL_law_274 (fun r σ1 H locs hw G => ?_)
        obtain ⟨e1, e2⟩ := hw
        obtain ⟨r1, er1⟩ : ∃ z, z = r := ⟨_, rfl⟩
        rw [← er1]
        refine lv_aload_n C.x C.b dL_law_277 rfl (lv_at hl 2 rfl) ?_
        refine lv_aload_n C.x C.b dL_law_278 rfl (lv_at hl 0 rfl) ?_
        refine lv_iload_n C.x C.b dL_law_279 rfl (lv_at hl 3 rfl) ?_
        refine lv_iconst (v := 1) C.x C.b dL_law_280 (by decide) ?_
        refine lv_iadd C.x C.b dL_law_281 ?_
        refine g_scr C G hX hbl hbA (i + 1) (by omega) hL (nI_add i 1) dL_law_282 ?_
        refine lv_aload_n C.x C.b dL_law_283 rfl (lv_at hl 0 rfl) ?_
        refine lv_iload_n C.x C.b dL_law_284 rfl (lv_at hl 3 rfl) ?_
        refine lv_iconst (v := 2) C.x C.b dL_law_285 (by decide) ?_
        refine lv_iadd C.x C.b dL_law_286 ?_
        refine g_scr C G hX hbl hbA (i + 2) (by omega) hL (nI_add i 2) dL_law_287 ?_
        refine g_lc2 (As := [.int (xs (i + 1)), .int (xs (i + 2))]) (rest := [.int r1]) C G hA (m2_between l D dI dZ h2 a2 n hn τ (xs (i + 1)) (xs (i + 2))) (cw02_between C.t (by decide) (by decide)) rfl hl.1 (Nat.le_of_ble_eq_true rfl) rfl (Nat.le_of_ble_eq_true rfl) (Nat.le_of_ble_eq_true rfl) dL_law_288 (fun r τ1 H locs hw G => ?_)
        obtain ⟨e3, e4⟩ := hw
        refine lv_icmp_eq (tgt := 355) C.x C.b dL_law_291 (by decide) (fun _ => ?_) (fun hq => absurd (by rw [er1, e1, e3]; exact (law_bt hn2 hn hI)) hq)
        exact K σ1 τ1 H locs ls (by rw [e2, e4]; exact hI.kp p_bt_kp) G hl
      · refine lv_tableIn (tgt := 296) C.x C.b dL_law_42 (by decide) (by decide) (show _ = some (254 : Int) by decide) (by decide) ?_
        refine lv_aload_n C.x C.b dL_law_296 rfl (lv_at hl 1 rfl) ?_
        refine lv_aload_n C.x C.b dL_law_297 rfl (lv_at hl 0 rfl) ?_
        refine lv_iload_n C.x C.b dL_law_298 rfl (lv_at hl 3 rfl) ?_
        refine lv_iconst (v := 1) C.x C.b dL_law_299 (by decide) ?_
        refine lv_iadd C.x C.b dL_law_300 ?_
        refine g_scr C G hX hbl hbA (i + 1) (by omega) hL (nI_add i 1) dL_law_301 ?_
        refine g_lc1 (As := [.int (xs (i + 1))]) (rest := []) C G hA (m1_value l D dI dZ h1 a1 n hn σ (xs (i + 1))) (cw01_value C.t (by decide) (by decide)) rfl hl.1 (Nat.le_of_ble_eq_true rfl) rfl (Nat.le_of_ble_eq_true rfl) (Nat.le_of_ble_eq_true rfl) dL_law_302 (fun r σ1 H locs hw G => ?_)
        obtain ⟨e1, e2⟩ := hw
        obtain ⟨r1, er1⟩ : ∃ z, z = r := ⟨_, rfl⟩
        rw [← er1]
        refine lv_aload_n C.x C.b dL_law_305 rfl (lv_at hl 2 rfl) ?_
        refine lv_aload_n C.x C.b dL_law_306 rfl (lv_at hl 0 rfl) ?_
        refine lv_iload_n C.x C.b dL_law_307 rfl (lv_at hl 3 rfl) ?_
        refine lv_iconst (v := 1) C.x C.b dL_law_308 (by decide) ?_
        refine lv_iadd C.x C.b dL_law_309 ?_
        refine g_scr C G hX hbl hbA (i + 1) (by omega) hL (nI_add i 1) dL_law_310 ?_
        refine g_lc2 (As := [.int (xs (i + 1))]) (rest := [.int r1]) C G hA (m2_value l D dI dZ h2 a2 n hn τ (xs (i + 1))) (cw02_value C.t (by decide) (by decide)) rfl hl.1 (Nat.le_of_ble_eq_true rfl) rfl (Nat.le_of_ble_eq_true rfl) (Nat.le_of_ble_eq_true rfl) dL_law_311 (fun r τ1 H locs hw G => ?_)
        obtain ⟨e3, e4⟩ := hw
        refine lv_icmp_eq (tgt := 355) C.x C.b dL_law_314 (by decide) (fun _ => ?_) (fun hq => absurd (by rw [er1, e1, e3]; exact (law_va hn2 hn hI)) hq)
        exact K σ1 τ1 H locs ls (by rw [e2, e4]; exact hI) G hl
      · refine lv_tableIn (tgt := 319) C.x C.b dL_law_42 (by decide) (by decide) (show _ = some (277 : Int) by decide) (by decide) ?_
        refine lv_aload_n C.x C.b dL_law_319 rfl (lv_at hl 1 rfl) ?_
        refine g_lc1 (As := []) (rest := []) C G hA (m1_separated l D dI dZ h1 a1 n hn σ) (cw01_separated C.t (by decide) (by decide)) rfl hl.1 (Nat.le_of_ble_eq_true rfl) rfl (Nat.le_of_ble_eq_true rfl) (Nat.le_of_ble_eq_true rfl) dL_law_320 (fun r σ1 H locs hw G => ?_)
        obtain ⟨e1, e2⟩ := hw
        obtain ⟨r1, er1⟩ : ∃ z, z = r := ⟨_, rfl⟩
        rw [← er1]
        refine lv_aload_n C.x C.b dL_law_323 rfl (lv_at hl 2 rfl) ?_
        refine g_lc2 (As := []) (rest := [.int r1]) C G hA (m2_separated l D dI dZ h2 a2 n hn τ) (cw02_separated C.t (by decide) (by decide)) rfl hl.1 (Nat.le_of_ble_eq_true rfl) rfl (Nat.le_of_ble_eq_true rfl) (Nat.le_of_ble_eq_true rfl) dL_law_324 (fun r τ1 H locs hw G => ?_)
        obtain ⟨e3, e4⟩ := hw
        refine lv_icmp_eq (tgt := 355) C.x C.b dL_law_327 (by decide) (fun _ => ?_) (fun hq => absurd (by rw [er1, e1, e3]; exact (law_se hn2 hn hI)) hq)
        exact K σ1 τ1 H locs ls (by rw [e2, e4]; exact hI.kp p_se_kp) G hl
      · refine lv_tableIn (tgt := 332) C.x C.b dL_law_42 (by decide) (by decide) (show _ = some (290 : Int) by decide) (by decide) ?_
        refine lv_aload_n C.x C.b dL_law_332 rfl (lv_at hl 1 rfl) ?_
        refine lv_aload_n C.x C.b dL_law_333 rfl (lv_at hl 0 rfl) ?_
        refine lv_iload_n C.x C.b dL_law_334 rfl (lv_at hl 3 rfl) ?_
        refine lv_iconst (v := 1) C.x C.b dL_law_335 (by decide) ?_
        refine lv_iadd C.x C.b dL_law_336 ?_
        refine g_scr C G hX hbl hbA (i + 1) (by omega) hL (nI_add i 1) dL_law_337 ?_
        refine g_lc1 (As := [.int (xs (i + 1))]) (rest := []) C G hA (m1_without l D dI dZ h1 a1 n hn σ (xs (i + 1))) (cw01_without C.t (by decide) (by decide)) rfl hl.1 (Nat.le_of_ble_eq_true rfl) rfl (Nat.le_of_ble_eq_true rfl) (Nat.le_of_ble_eq_true rfl) dL_law_338 (fun r σ1 H locs hw G => ?_)
        obtain ⟨e1, e2⟩ := hw
        obtain ⟨r1, er1⟩ : ∃ z, z = r := ⟨_, rfl⟩
        rw [← er1]
        refine lv_aload_n C.x C.b dL_law_341 rfl (lv_at hl 2 rfl) ?_
        refine lv_aload_n C.x C.b dL_law_342 rfl (lv_at hl 0 rfl) ?_
        refine lv_iload_n C.x C.b dL_law_343 rfl (lv_at hl 3 rfl) ?_
        refine lv_iconst (v := 1) C.x C.b dL_law_344 (by decide) ?_
        refine lv_iadd C.x C.b dL_law_345 ?_
        refine g_scr C G hX hbl hbA (i + 1) (by omega) hL (nI_add i 1) dL_law_346 ?_
        refine g_lc2 (As := [.int (xs (i + 1))]) (rest := [.int r1]) C G hA (m2_without l D dI dZ h2 a2 n hn τ (xs (i + 1))) (cw02_without C.t (by decide) (by decide)) rfl hl.1 (Nat.le_of_ble_eq_true rfl) rfl (Nat.le_of_ble_eq_true rfl) (Nat.le_of_ble_eq_true rfl) dL_law_347 (fun r τ1 H locs hw G => ?_)
        obtain ⟨e3, e4⟩ := hw
        refine lv_icmp_eq (tgt := 355) C.x C.b dL_law_350 (by decide) (fun _ => ?_) (fun hq => absurd (by rw [er1, e1, e3]; exact (law_wo hn2 hn hI)) hq)
        exact K σ1 τ1 H locs ls (by rw [e2, e4]; exact hI.kp p_wo_kp) G hl
      · refine lv_tableOut (tgt := 355) C.x C.b dL_law_42 (Or.inr (by rw [nI_toInt (by omega)]; omega)) (by decide) ?_
        exact K σ τ H locs ls hI G hl
set_option maxHeartbeats 4000000 in
/-- from the entry, for every script of at most 257 ints, the law comes to its end with true -/
theorem whole_start {p : Program} {e : Env} {s : State} {m : MethodId} {below : List Frame} {meth : Method} {c : Code} (l : Launch) {b L : Nat} {xs : Nat → Int32} (hL : L ≤ 257) (C0 : lw_At p s m meth c b L xs) : W p l e room_1 s m #[Value.ref b] below meth c s.heap [] 0 0 (lw_Z below #[Value.ref b] s) (entryFrame m ([Value.ref b] : List Value).toArray 4) := by
  obtain ⟨hx, hb, hr, hml, hown, hts0, hX, hbl, hlocks, hgv⟩ := id C0
  have hts : ∀ w ∈ lw_all, w.before #[Value.ref b] s = true := fun w h => hts0 w (lw_all_tbl h)
  have hA : ∀ q : Nat, s.heap.size ≤ q → (fun q : Nat => s.heap.size ≤ q) q := fun _ h => h
  have hbA : ¬ (fun q : Nat => s.heap.size ≤ q) b := Nat.not_le.mpr hbl
  obtain ⟨c0, iS0, hKn0⟩ := u_known (C := RX1) (T := TX1) (N := 14) (n := 14) hts in_X1 (hts _ q21)
  obtain ⟨c1, iS1, hKn1⟩ := u_known (C := RX2) (T := TX2) (N := 3) (n := 3) hts in_X2 (hts _ q167)
  obtain ⟨dC, dF, hKc⟩ : ∃ (dC : Nat → ClassId) (dF : Nat → Nat → Nat), ∀ (k : Nat) (q : vw_C), vwCl[k]? = some q → u_Kn s q.1 q.2.1 q.2.2 (dC k) (dF k) := by
    refine ⟨fun k => if k = 0 then c0 else c1, fun k => if k = 0 then iS0 else iS1, ?_⟩
    intro k q hq
    match k, hq with
    | 0, hq => cases hq; exact hKn0
    | 1, hq => cases hq; exact hKn1
    | k + 2, hq => simp [vwCl] at hq
  obtain ⟨dI, kI, cI, hI1, hI2, hI3⟩ := Cond.arrayClass_spec (hts _ q71)
  obtain ⟨dZ, kZ, cZ, hZ1, hZ2, hZ3⟩ := Cond.arrayClass_spec (hts _ q72)
  have hK : va_K (dC, dF) vwCl (g_tys dI dZ) s := by
    refine ⟨hKc, fun k q h => ?_⟩
    match k, h with
    | 0, h => cases h; exact ⟨fun n z => ⟨fun k h => (by cases h), kI, hI2, cI, hI3⟩, hI1⟩
    | 1, h => cases h; exact ⟨fun n z => ⟨fun k h => (by cases h), kZ, hZ2, cZ, hZ3⟩, hZ1⟩
    | k + 2, h => simp at h
  have hS : va_S (fun q : Nat => s.heap.size ≤ q) s.heap s.heap [] := va_S.rf
  have hP : va_P (dC, dF) vwCl [] s.heap := fun k q h => by simp at h
  have hD : va_D (fun q : Nat => s.heap.size ≤ q) [] := ⟨fun i j p q h => by simp at h, fun k q h => by simp at h⟩
  have C : g_C RX0 p s m #[Value.ref b] c code 4 (dC, dF) dI dZ := ⟨⟨hx, hb, hml, hown, hts⟩, hK⟩
  have hl := lv_entry ([.ref b]) (n := 4) (Nat.le_of_ble_eq_true rfl)
  rw [lg_entry_eq]
  generalize (lg_sl ([.ref b]) ++ List.replicate (4 - (lg_sl ([.ref b])).length) Slot.unset).toArray = ls at hl ⊢
  have hl : lv_has ls 4 [(0, .ref b)] := hl
  refine va_new (ci := 0) (fs := g1_nil) (C := RX1) (T := TX1) (N := 14) C.x C.b C.t in_X1 tyX1 tyX1_ok C.o (C.t _ q20) (C.t _ q21) (C.t _ q18) C.2 hP hD hS hA rfl (by decide +kernel) (Nat.le_of_ble_eq_true rfl) (Nat.le_of_ble_eq_true rfl) dL_law_0 (fun h1 H hP hD hS => ?_)
  have hP : va_P (dC, dF) vwCl [(h1, .inr (0, g1_nil))] H := hP
  have hD : va_D (fun q : Nat => s.heap.size ≤ q) [(h1, .inr (0, g1_nil))] := hD
  refine W.widen (k := 1) (n := 14) (by omega) (by omega) ?_
  refine lv_dup C.x C.b dL_law_3 rfl ?_
  refine lv_aload_n C.x C.b dL_law_4 rfl (lv_at hl 0 rfl) ?_
  refine lv_iconst (v := nI 0) C.x C.b dL_law_5 (by decide) ?_
  refine g_cell C hX hbl hbA hA hL hP hD hS hl.1 (Nat.le_of_ble_eq_true rfl) (Nat.le_of_ble_eq_true rfl) (Nat.le_of_ble_eq_true rfl) (Nat.le_of_ble_eq_true rfl) (Nat.le_of_ble_eq_true rfl) dL_law_6 (fun H locs hP hS => ?_)
  have hFc : ∀ q, va_A [(h1, .inr (0, g1_nil))] H.size q → (fun q : Nat => s.heap.size ≤ q) q := va_free hD hS hA [0] rfl
  refine va_callv (va_runI (As := [.int (p_cell L xs)]) (rest := [.ref h1]) C.1 (m1_init l (dC, dF) dI dZ h1 H.size (p_cell L xs)) (cwI 1 C.t (lw_meth q24) rfl rfl rfl (C.t _ q18) (C.t _ q22) (C.t _ q23) rfl (by decide +kernel) ⟨Nat.le_of_ble_eq_true rfl, Nat.le_of_ble_eq_true rfl⟩) ⟨fun a U g mk q => by obtain ⟨q0, q1, qP, qK, qD⟩ := q; exact ⟨q0, q1, qP, va_K.moved (u := U) (U := U.calling g mk a) (Vm.Alike.refl U.vm) qK, qD⟩, fun U hU hW => ⟨rfl, by rw [hU], by rw [hU]; exact hP, va_K.moved hW.alike C.2, hD.weaken (fun _ _ _ _ => trivial)⟩⟩ rfl rfl hl.1 rfl (lv_room (Nat.le_of_ble_eq_true rfl)) dL_law_9 ⟨Nat.le_of_ble_eq_true rfl, Nat.le_of_ble_eq_true rfl⟩) hS (fun q _ h => hFc q h) hFc (fun a1 t H1 locs ht hvm hw hB hz1 hk1 hS => ?_)
  obtain ⟨hP, hK1, hD1⟩ := hB
  rw [ht] at hP
  have hD : va_D (fun q : Nat => s.heap.size ≤ q) (g1_w dI dZ h1 a1 (p_nn (p_cell L xs)) (fun _ _ => 0)) := hD1.weaken (fun k q _ h => hFc q.1 h)
  generalize H1 = H at hP hS ⊢
  refine W.widen (k := 11) (n := 392) (by omega) (by omega) ?_
  refine lv_astore_n (lv' := [(1, .ref h1), (0, .ref b)]) C.x C.b dL_law_12 rfl hl (by decide) rfl (fun ls hl => ?_)
  refine va_new (ci := 1) (fs := g2_nil) (C := RX2) (T := TX2) (N := 3) C.x C.b C.t in_X2 tyX2 tyX2_ok C.o (C.t _ q166) (C.t _ q167) (C.t _ q19) C.2 hP hD hS hA rfl (by decide +kernel) (Nat.le_of_ble_eq_true rfl) (Nat.le_of_ble_eq_true rfl) dL_law_13 (fun h2 H hP hD hS => ?_)
  refine W.widen (k := 12) (n := 395) (by omega) (by omega) ?_
  refine lv_dup C.x C.b dL_law_16 rfl ?_
  refine lv_aload_n C.x C.b dL_law_17 rfl (lv_at hl 1 rfl) ?_
  refine lv_iconst (v := nI 0) C.x C.b dL_law_18 (by decide) ?_
  refine g_cell C hX hbl hbA hA hL hP hD hS hl.1 (Nat.le_of_ble_eq_true rfl) (Nat.le_of_ble_eq_true rfl) (Nat.le_of_ble_eq_true rfl) (Nat.le_of_ble_eq_true rfl) (Nat.le_of_ble_eq_true rfl) dL_law_19 (fun H locs hP hS => ?_)
  have hPc : va_P (dC, dF) vwCl [(h2, .inr (1, g2_nil))] H := hP.sub [11] rfl
  have hDc : va_D (fun q : Nat => s.heap.size ≤ q) [(h2, .inr (1, g2_nil))] := hD.sub [11] (by decide) rfl
  have hFc : ∀ q, va_A [(h2, .inr (1, g2_nil))] H.size q → (fun q : Nat => s.heap.size ≤ q) q := va_free hD hS hA [11] rfl
  refine va_callv (va_runI (As := [.int (p_cell L xs)]) (rest := [.ref h2]) C.1 (m2_init l (dC, dF) dI dZ h2 H.size (p_cell L xs)) (cwI 1 C.t (lw_meth q170) rfl rfl rfl (C.t _ q19) (C.t _ q168) (C.t _ q169) rfl (by decide +kernel) ⟨Nat.le_of_ble_eq_true rfl, Nat.le_of_ble_eq_true rfl⟩) ⟨fun a U g mk q => by obtain ⟨q0, q1, qP, qK, qD⟩ := q; exact ⟨q0, q1, qP, va_K.moved (u := U) (U := U.calling g mk a) (Vm.Alike.refl U.vm) qK, qD⟩, fun U hU hW => ⟨rfl, by rw [hU], by rw [hU]; exact hPc, va_K.moved hW.alike C.2, hDc.weaken (fun _ _ _ _ => trivial)⟩⟩ rfl rfl hl.1 rfl (lv_room (Nat.le_of_ble_eq_true rfl)) dL_law_22 ⟨Nat.le_of_ble_eq_true rfl, Nat.le_of_ble_eq_true rfl⟩) hS (fun q _ h => hFc q h) hFc (fun a2 t H1 locs ht hvm hw hB hz1 hk1 hS => ?_)
  obtain ⟨hP1, hK1, hD1⟩ := hB
  rw [ht] at hP1
  obtain ⟨hP, hD⟩ := va_join (wr := g1_w dI dZ h1 a1 (p_nn (p_cell L xs)) (fun _ _ => 0)) (w1 := g2_w dI dZ h2 a2 (p_nn (p_cell L xs)) (fun _ _ => 0)) hP hD [11] [0, 1, 2, 3, 4, 5, 6, 7, 8, 9, 10] rfl rfl (by decide) (by decide) hk1 hFc hP1 hD1
  generalize H1 = H at hP hS ⊢
  refine W.widen (k := 600000) (n := 7290000) (by omega) (by omega) ?_
  refine lv_astore_n (lv' := [(2, .ref h2), (1, .ref h1), (0, .ref b)]) C.x C.b dL_law_25 rfl hl (by decide) rfl (fun ls hl => ?_)
  refine lv_iconst (v := nI 1) C.x C.b dL_law_26 (by decide) ?_
  refine lv_istore_n (lv' := [(3, .int (nI 1)), (2, .ref h2), (1, .ref h1), (0, .ref b)]) C.x C.b dL_law_27 rfl hl (by decide) rfl (fun ls hl => ?_)
  have hI0 : g_I (fun _ _ => 0) (fun _ _ => 0) := ⟨⟨fun u v _ _ => ⟨⟨0, by omega, rfl⟩, rfl, rfl⟩, fun u _ => rfl⟩, rfl, rfl⟩
  exact w_law C hr hlocks hX hbl hL p_nn_in.1 p_nn_in.2 (L + 1) 1 _ _ H locs ls (by omega) (by omega) hI0 ⟨hP, hD, hS⟩ (lv_sub hl [3, 2, 1, 0] rfl)
end
section
-- ===== YOUR PART ENDS =====
set_option maxHeartbeats 4000000 in
theorem lw_walk (l : Launch) (b : Addr) (xs : List Int32) : MetFree l x (headSpec (Jvm.Cond.code x code maxLocals ret :: tables_1) room_1) (lw_P b xs) (fun _ _ _ _ _ => True) lw_Q := by
  refine MetFree.of_bodyS (code := code) (maxLocals := maxLocals) (ret := ret) (by decide) ?_ ?_
  · intro args s m h hn
    obtain ⟨meth, c, h1, h2, h3, h4, h5, h6, -, -⟩ := Cond.code_spec hn (atoms_spec (ws := Jvm.Cond.code x code maxLocals ret :: tables_1) h _ List.mem_cons_self)
    exact ⟨meth, c, h1, h2, h3, h4, h5, h6⟩
  · intro p e s m args below meth c s₁ B hml0 hP _
    obtain ⟨rfl, hx, hbd, hgv⟩ := hP
    obtain ⟨scr, harrAt, hlist, hof, hsmall⟩ := hx
    obtain ⟨hcb, hkn, -, -⟩ := State.arrayAt?_spec harrAt
    have hown : s.vm.findClass R_law = some m.cls := findClass_of_methodNamed B.named
    have hts0 : ∀ c ∈ (Jvm.Cond.code x code maxLocals ret :: tables_1), c.before #[Value.ref b] s = true := atoms_spec (ws := Jvm.Cond.code x code maxLocals ret :: tables_1) B.pre
    have hts : ∀ w ∈ lw_tbl, w.before #[Value.ref b] s = true := k2_hts_sels lw_privs (fun w hw => hts0 w (List.mem_cons_of_mem _ hw)) lw_privs_ok
    have hml : c.maxLocals = 4 := B.maxLocals_eq (hts0 _ List.mem_cons_self)
    have X₀ : Stand p l e room_1 s m #[Value.ref b] below meth c s₁ [] 0 0 := Stand.of_body B
    have hh0 : s₁.heap = s.heap := by rw [B.state]; rfl
    have hsz : scr.slots.size = xs.length := by rw [← Array.length_toList, hlist, List.length_map]
    have hval : ∀ j : Nat, j < xs.length → scr.slots[j]? = some (.int (xs.getD j 0)) := fun j hj => by
      rw [← Array.getElem?_toList, hlist]
      simp [hj]
    have hbl : b < s.heap.size := (Array.getElem?_eq_some_iff.mp hcb).1
    have hX : va_X b xs.length (fun j => xs.getD j 0) s s.heap := ⟨scr, hcb, hof, hkn, hsz, hval⟩
    have K : W p l e room_1 s m #[Value.ref b] below meth c s₁.heap [] 0 0 (lw_Z below #[Value.ref b] s) (entryFrame m ([Value.ref b] : List Value).toArray 4) := by
      rw [hh0]
      exact whole_start l hbd ⟨B.exec, B.bytes, B.returns, hml, hown, hts, hX, hbl, B.notSynchronized, hgv⟩
    obtain ⟨t, a1, o, b1, b2, b3⟩ := K s₁ rfl X₀
    exact ⟨t, o, a1, b1, b2, b3⟩
theorem lw_pre_spec {args : Array Value} {s : State} (h : (Jvm.Cond.and given_1 narrow_1).before args s = true) (hr : rest_1_c.before args s = true) : ∃ (b : Addr) (xs : List Int32), lw_P b xs args s := by
  have hs := flat_of_before _ h
  have hq := flat_of_before _ hr
  have hc : (Cond.count 1).before args s = true := hs _ (by decide +kernel)
  have harr : (Cond.arrayOf (.arg 0) .int).before args s = true := hs _ (by decide +kernel)
  have hle : (Cond.le (.length (.arg 0)) (.int 257)).before args s = true := hs _ (by decide +kernel)
  have hlen : (Cond.isInt (.length (.arg 0))).before args s = true := hq _ (by decide +kernel)
  have hall : (Cond.all (.arg 0) (.isInt (.elem (.arg 0) (.index 0)))).before args s = true := hq _ (by decide +kernel)
  obtain ⟨b, xs, hb, hx⟩ := State.ints_of_pre rfl harr hlen hall
  have hsm : xs.length < 2 ^ 31 := hx.choose_spec.2.2.2
  have hev : (Term.length (.arg 0)).eval args s none [] s = some (.int xs.length.toInt32) := hx.length_eval hb
  have hv := Cond.le_ints hev (show (Term.int 257).eval args s none [] s = some (.int 257) from rfl)
  have hd : xs.length.toInt32 ≤ 257 := by
    simpa [Cond.before, Cond.holds, hv] using hle
  have hN : xs.length ≤ 257 := (Int32.ofNat_le_ofNat hsm (by decide)).mp (show Int32.ofNat xs.length ≤ Int32.ofNat 257 from hd)
  exact ⟨b, xs, Cond.one_arg hc (show args[0]? = some (.ref b) from hb), hx, hN, h⟩
theorem lw_comes (l : Launch) : Comes l x (Jvm.Cond.code x code maxLocals ret :: tables_1) room_1 (fun tb e args s => Calls_1 tb e args s ∧ rest_1 tb e args s ∧ Pre_1 tb e args s)
    (fun _ _ args s o t => lw_Q args s o t) := by
  intro p e ha hc hk s m args below hf hfit hheap happ hpre
  obtain ⟨b, xs, hP⟩ := lw_pre_spec hpre.2.2 hpre.2.1
  obtain ⟨k, o, h1, h2, h3, hQ⟩ := lw_walk l b xs p e ha hc hk s m args below hf ((Spec.applies_iff_loose hf).mp happ).1 hP trivial
  exact ⟨k, o, h1, h2, h3, hQ⟩
theorem lw_frame {s t : State} {o : Outcome} {args : Array Value} (h : Framed s o t [] 600000 7290000) :
    Framed s o t (fieldLocs frame_1_writes args s ++ arrayLocs frame_1_arrays args s ++ staticLocs frame_1_statics s) 600000 7290000 := h
theorem lw_limb (L : Cond) (hL : ∀ (args : Array Value) (s t : State), L.after args s (.returned (some (.int 1))) t = true) :
    ArmFor flags0 classFile x code maxLocals ret World_1 tables_1 room_1 Calls_1 rest_1 Pre_1
      (fun tb e a s o t => postC L tb e a s o t ∧ Framed s o t (fieldLocs frame_1_writes a s ++ arrayLocs frame_1_arrays a s ++ staticLocs frame_1_statics s) 600000 7290000) := by
  intro l _ _ _ p e ha hc hk s m args below hf hfit hheap happ hpre
  obtain ⟨k, o, h1, h2, h3, rfl, hF⟩ := lw_comes l p e ha hc hk s m args below hf hfit hheap happ hpre
  exact ⟨k, _, h1, h2, h3, hL args s _, lw_frame hF⟩
theorem i_vc : Claimed_1_1 ∧ Claimed_1_2 := ⟨lw_limb limb_1_1 (fun args s t => by simp [limb_1_1, Cond.after, Cond.holds, Cond.value]), lw_limb limb_1_2 (fun args s t => Cond.after_iff.mpr (by
  first | (rw [show limb_1_2 = Cond.eq .result (.int 1) from rfl, Cond.eq_ints (x := 1) (y := 1) rfl rfl]; simp; done) | (simp [limb_1_2, Cond.value, Term.eval]; done)))⟩
end
