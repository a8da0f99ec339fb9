section
-- ===== PART A: goes FIRST, ahead of the names: the tables' words, and 'selects' of the private methods out of them =====
/-- a private method of a class that the tables say can be made, by its rows of tables_1 -/
def lw_okq (q : MethodName × Nat) : Prop := (q.1.cls ≠ "java/lang/invoke/MethodHandle" ∧ q.1.cls ≠ "java/lang/invoke/VarHandle") ∧ Cond.instantiable q.1.cls q.2 ∈ tables_1 ∧ Cond.privateMethod q.1 ∈ tables_1 ∧ Cond.instanceMethod q.1 ∈ tables_1
set_option maxRecDepth 100000
theorem lw_p0 : lw_okq (⟨"CirculationRange", "noArc", "(I)Z"⟩, 13) := ⟨⟨by decide +kernel, by decide +kernel⟩, List.mem_of_getElem? (i := 4) rfl, List.mem_of_getElem? (i := 64) rfl, List.mem_of_getElem? (i := 65) rfl⟩
theorem lw_p1 : lw_okq (⟨"CirculationRange", "build", "()V"⟩, 13) := ⟨⟨by decide +kernel, by decide +kernel⟩, List.mem_of_getElem? (i := 4) rfl, List.mem_of_getElem? (i := 80) rfl, List.mem_of_getElem? (i := 81) rfl⟩
theorem lw_p2 : lw_okq (⟨"CirculationRange", "setEdge", "(IIII)V"⟩, 13) := ⟨⟨by decide +kernel, by decide +kernel⟩, List.mem_of_getElem? (i := 4) rfl, List.mem_of_getElem? (i := 84) rfl, List.mem_of_getElem? (i := 85) rfl⟩
theorem lw_p3 : lw_okq (⟨"CirculationRange", "solve", "()V"⟩, 13) := ⟨⟨by decide +kernel, by decide +kernel⟩, List.mem_of_getElem? (i := 4) rfl, List.mem_of_getElem? (i := 88) rfl, List.mem_of_getElem? (i := 89) rfl⟩
theorem lw_p4 : lw_okq (⟨"CirculationRange", "moveAll", "(IIII)I"⟩, 13) := ⟨⟨by decide +kernel, by decide +kernel⟩, List.mem_of_getElem? (i := 4) rfl, List.mem_of_getElem? (i := 92) rfl, List.mem_of_getElem? (i := 93) rfl⟩
theorem lw_p5 : lw_okq (⟨"CirculationRange", "findWay", "(III)Z"⟩, 13) := ⟨⟨by decide +kernel, by decide +kernel⟩, List.mem_of_getElem? (i := 4) rfl, List.mem_of_getElem? (i := 96) rfl, List.mem_of_getElem? (i := 97) rfl⟩
theorem lw_p6 : lw_okq (⟨"CirculationRange", "across", "(II)I"⟩, 13) := ⟨⟨by decide +kernel, by decide +kernel⟩, List.mem_of_getElem? (i := 4) rfl, List.mem_of_getElem? (i := 100) rfl, List.mem_of_getElem? (i := 101) rfl⟩
theorem lw_p7 : lw_okq (⟨"CirculationRange", "push", "(III)I"⟩, 13) := ⟨⟨by decide +kernel, by decide +kernel⟩, List.mem_of_getElem? (i := 4) rfl, List.mem_of_getElem? (i := 104) rfl, List.mem_of_getElem? (i := 105) rfl⟩
theorem lw_p8 : lw_okq (⟨"CirculationRange", "roomOn", "(I)I"⟩, 13) := ⟨⟨by decide +kernel, by decide +kernel⟩, List.mem_of_getElem? (i := 4) rfl, List.mem_of_getElem? (i := 108) rfl, List.mem_of_getElem? (i := 109) rfl⟩
theorem lw_p9 : lw_okq (⟨"CirculationRangeModel", "isVertex", "(I)Z"⟩, 5) := ⟨⟨by decide +kernel, by decide +kernel⟩, List.mem_of_getElem? (i := 136) rfl, List.mem_of_getElem? (i := 162) rfl, List.mem_of_getElem? (i := 163) rfl⟩
theorem lw_p10 : lw_okq (⟨"CirculationRangeModel", "place", "(IIII)V"⟩, 5) := ⟨⟨by decide +kernel, by decide +kernel⟩, List.mem_of_getElem? (i := 136) rfl, List.mem_of_getElem? (i := 166) rfl, List.mem_of_getElem? (i := 167) rfl⟩
theorem lw_p11 : lw_okq (⟨"CirculationRangeModel", "isArc", "(I)Z"⟩, 5) := ⟨⟨by decide +kernel, by decide +kernel⟩, List.mem_of_getElem? (i := 136) rfl, List.mem_of_getElem? (i := 174) rfl, List.mem_of_getElem? (i := 175) rfl⟩
theorem lw_p12 : lw_okq (⟨"CirculationRangeModel", "worst", "(I)I"⟩, 5) := ⟨⟨by decide +kernel, by decide +kernel⟩, List.mem_of_getElem? (i := 136) rfl, List.mem_of_getElem? (i := 190) rfl, List.mem_of_getElem? (i := 191) rfl⟩
theorem lw_p13 : lw_okq (⟨"CirculationRangeModel", "lackOf", "(II)I"⟩, 5) := ⟨⟨by decide +kernel, by decide +kernel⟩, List.mem_of_getElem? (i := 136) rfl, List.mem_of_getElem? (i := 194) rfl, List.mem_of_getElem? (i := 195) rfl⟩
theorem lw_p14 : lw_okq (⟨"CirculationRangeModel", "allows", "(II)Z"⟩, 5) := ⟨⟨by decide +kernel, by decide +kernel⟩, List.mem_of_getElem? (i := 136) rfl, List.mem_of_getElem? (i := 210) rfl, List.mem_of_getElem? (i := 211) rfl⟩
def lw_privs_1 : List (MethodName × Nat) := [(⟨"CirculationRange", "noArc", "(I)Z"⟩, 13), (⟨"CirculationRange", "build", "()V"⟩, 13), (⟨"CirculationRange", "setEdge", "(IIII)V"⟩, 13), (⟨"CirculationRange", "solve", "()V"⟩, 13), (⟨"CirculationRange", "moveAll", "(IIII)I"⟩, 13), (⟨"CirculationRange", "findWay", "(III)Z"⟩, 13), (⟨"CirculationRange", "across", "(II)I"⟩, 13), (⟨"CirculationRange", "push", "(III)I"⟩, 13), (⟨"CirculationRange", "roomOn", "(I)I"⟩, 13), (⟨"CirculationRangeModel", "isVertex", "(I)Z"⟩, 5), (⟨"CirculationRangeModel", "place", "(IIII)V"⟩, 5), (⟨"CirculationRangeModel", "isArc", "(I)Z"⟩, 5), (⟨"CirculationRangeModel", "worst", "(I)I"⟩, 5), (⟨"CirculationRangeModel", "lackOf", "(II)I"⟩, 5), (⟨"CirculationRangeModel", "allows", "(II)Z"⟩, 5)]
theorem lw_r1 : ∀ q ∈ lw_privs_1, lw_okq q := List.forall_mem_cons.mpr ⟨lw_p0, List.forall_mem_cons.mpr ⟨lw_p1, List.forall_mem_cons.mpr ⟨lw_p2, List.forall_mem_cons.mpr ⟨lw_p3, List.forall_mem_cons.mpr ⟨lw_p4, List.forall_mem_cons.mpr ⟨lw_p5, List.forall_mem_cons.mpr ⟨lw_p6, List.forall_mem_cons.mpr ⟨lw_p7, List.forall_mem_cons.mpr ⟨lw_p8, List.forall_mem_cons.mpr ⟨lw_p9, List.forall_mem_cons.mpr ⟨lw_p10, List.forall_mem_cons.mpr ⟨lw_p11, List.forall_mem_cons.mpr ⟨lw_p12, List.forall_mem_cons.mpr ⟨lw_p13, List.forall_mem_cons.mpr ⟨lw_p14, fun _ h => absurd h List.not_mem_nil⟩⟩⟩⟩⟩⟩⟩⟩⟩⟩⟩⟩⟩⟩⟩
def lw_privs : List (MethodName × Nat) := lw_privs_1
def lw_tbl : List Cond := k2_sels lw_privs ++ tables_1
theorem lw_privs_ok : ∀ q ∈ lw_privs, lw_okq q := lw_r1
-- ===== ONE list of words for every method: the tables' words that hold all through a run =====
def lw_all : List Cond := lw_tbl.filter goodWord
/-- a word of the tables by its place: claim/WORDS.tsv -/
theorem lw_w {w : Cond} (i : Nat) (h : lw_tbl[i]? = some w) (g : goodWord w = true) : w ∈ lw_all := List.mem_filter.mpr ⟨List.mem_of_getElem? h, g⟩
theorem lw_all_tbl {w : Cond} (h : w ∈ lw_all) : w ∈ lw_tbl := (List.mem_filter.mp h).1
theorem lw_self : GoodIn lw_all lw_all := fun w h => ⟨h, good_of_word (List.mem_filter.mp h).2⟩
/-- a class's field words, by their places -/
theorem lw_in (ws : List Cond) (ps : List Nat) (hp : ws = ps.filterMap (fun i => lw_tbl[i]?)) (hg : ws.all goodWord = true) : ∀ w ∈ ws, w ∈ lw_all := by
  intro w h
  have h1 := List.all_eq_true.mp hg w h
  rw [hp] at h
  obtain ⟨i, -, hi⟩ := List.mem_filterMap.mp h
  exact lw_w i hi h1
/-- the words of a contract for the method y with code b, L locals, answer r -/
abbrev ws_ (y : MethodName) (b : ByteArray) (L : Nat) (r : Option FieldType) : List Cond := Cond.code y b L r :: lw_all
theorem lw_meth {y : MethodName} {b : ByteArray} {L : Nat} {r : Option FieldType} (h : Cond.code y b L r ∈ lw_all) : GoodIn lw_all (ws_ y b L r) := by
  intro w hw
  rcases List.mem_cons.mp hw with e | e
  · rw [e]
    exact lw_self _ h
  · exact lw_self _ e
theorem lw_app {a c : List Cond} (ha : ∀ w ∈ a, w ∈ lw_all) (hc : GoodIn lw_all c) : GoodIn lw_all (a ++ c) := by
  intro w hw
  rcases List.mem_append.mp hw with e | e
  · exact lw_self w (ha w e)
  · exact hc w e
/-- what a call through an object asks: cwV n hts (lw_V ..) -/
theorem lw_V {own : String} {idx : Nat} {C : String} {y : MethodName} {b : ByteArray} {L : Nat} {r : Option FieldType} (h1 : Cond.methodLink own idx y ∈ lw_all) (h2 : Cond.instanceMethod y ∈ lw_all) (h3 : Cond.selects C y y ∈ lw_all) (h4 : Cond.initialized C ∈ lw_all) (h5 : Cond.code y b L r ∈ lw_all) : GoodIn lw_all (wsV own idx C y (ws_ y b L r)) := by
  refine lw_app ?_ (lw_meth h5)
  intro w hw
  simp only [List.mem_cons, List.not_mem_nil, or_false] at hw
  rcases hw with e | e | e | e
  · rw [e]; exact h1
  · rw [e]; exact h2
  · rw [e]; exact h3
  · rw [e]; exact h4
/-- what a static call asks: va_cwS n hts (lw_S ..) -/
theorem lw_S {own : String} {idx : Nat} {y : MethodName} {b : ByteArray} {L : Nat} {r : Option FieldType} (h1 : Cond.methodLink own idx y ∈ lw_all) (h2 : Cond.static y ∈ lw_all) (h3 : Cond.initialized y.cls ∈ lw_all) (h4 : Cond.code y b L r ∈ lw_all) : GoodIn lw_all (va_wsS own idx y (ws_ y b L r)) := by
  refine lw_app ?_ (lw_meth h4)
  intro w hw
  simp only [List.mem_cons, List.not_mem_nil, or_false] at hw
  rcases hw with e | e | e
  · rw [e]; exact h1
  · rw [e]; exact h2
  · rw [e]; exact h3
/-- the words of a contract for a method WITH HANDLERS (hh: its table) -/
abbrev wsW_ (y : MethodName) (b : ByteArray) (L : Nat) (r : Option FieldType) (hh : List (Nat × Nat × Nat × Nat)) : List Cond := Cond.codeWith y b L r hh :: lw_all
theorem lw_methW {y : MethodName} {b : ByteArray} {L : Nat} {r : Option FieldType} {hh : List (Nat × Nat × Nat × Nat)} (h : Cond.codeWith y b L r hh ∈ lw_all) : GoodIn lw_all (wsW_ y b L r hh) := by
  intro w hw
  rcases List.mem_cons.mp hw with e | e
  · rw [e]
    exact lw_self _ h
  · exact lw_self _ e
/-- any list of words by their places (lw_in), good -/
theorem lw_good {ws : List Cond} (h : ∀ w ∈ ws, w ∈ lw_all) : GoodIn lw_all ws := fun w hw => lw_self w (h w hw)
/-- what a call of a method with handlers asks: vx_cwVW n hts (lw_VW ..), vx_cwSW n hts (lw_SW ..) -/
theorem lw_VW {own : String} {idx : Nat} {C : String} {y : MethodName} {b : ByteArray} {L : Nat} {r : Option FieldType} {hh : List (Nat × Nat × Nat × Nat)} (h1 : Cond.methodLink own idx y ∈ lw_all) (h2 : Cond.instanceMethod y ∈ lw_all) (h3 : Cond.selects C y y ∈ lw_all) (h4 : Cond.initialized C ∈ lw_all) (h5 : Cond.codeWith y b L r hh ∈ lw_all) : GoodIn lw_all (wsV own idx C y (wsW_ y b L r hh)) := by
  refine lw_app ?_ (lw_methW h5)
  intro w hw
  simp only [List.mem_cons, List.not_mem_nil, or_false] at hw
  rcases hw with e | e | e | e
  · rw [e]; exact h1
  · rw [e]; exact h2
  · rw [e]; exact h3
  · rw [e]; exact h4
theorem lw_SW {own : String} {idx : Nat} {y : MethodName} {b : ByteArray} {L : Nat} {r : Option FieldType} {hh : List (Nat × Nat × Nat × Nat)} (h1 : Cond.methodLink own idx y ∈ lw_all) (h2 : Cond.static y ∈ lw_all) (h3 : Cond.initialized y.cls ∈ lw_all) (h4 : Cond.codeWith y b L r hh ∈ lw_all) : GoodIn lw_all (va_wsS own idx y (wsW_ y b L r hh)) := by
  refine lw_app ?_ (lw_methW h4)
  intro w hw
  simp only [List.mem_cons, List.not_mem_nil, or_false] at hw
  rcases hw with e | e | e
  · rw [e]; exact h1
  · rw [e]; exact h2
  · rw [e]; exact h3
/-- a word by its place in its run of the tables -/
theorem lw_at {r : List Cond} (hr : ∀ w ∈ r, w ∈ lw_tbl) {w : Cond} (i : Nat) (h : r[i]? = some w) : w ∈ lw_tbl := hr w (List.mem_of_getElem? h)
theorem lw_g {w : Cond} (h : w ∈ lw_tbl) (g : goodWord w = true) : w ∈ lw_all := List.mem_filter.mpr ⟨h, g⟩
theorem lw_ms : ∀ w ∈ k2_sels lw_privs, w ∈ lw_tbl := fun w h => show w ∈ k2_sels lw_privs ++ tables_1 from List.mem_append_left _ h
theorem lw_m0 : ∀ w ∈ tables_1, w ∈ lw_tbl := fun w h => show w ∈ k2_sels lw_privs ++ tables_1 from List.mem_append_right (k2_sels lw_privs) h
theorem qs0 : (Cond.selects "CirculationRange" ⟨"CirculationRange", "noArc", "(I)Z"⟩ ⟨"CirculationRange", "noArc", "(I)Z"⟩) ∈ lw_all := lw_g (lw_at lw_ms 0 rfl) rfl
theorem qs1 : (Cond.selects "CirculationRange" ⟨"CirculationRange", "build", "()V"⟩ ⟨"CirculationRange", "build", "()V"⟩) ∈ lw_all := lw_g (lw_at lw_ms 1 rfl) rfl
theorem qs2 : (Cond.selects "CirculationRange" ⟨"CirculationRange", "setEdge", "(IIII)V"⟩ ⟨"CirculationRange", "setEdge", "(IIII)V"⟩) ∈ lw_all := lw_g (lw_at lw_ms 2 rfl) rfl
theorem qs3 : (Cond.selects "CirculationRange" ⟨"CirculationRange", "solve", "()V"⟩ ⟨"CirculationRange", "solve", "()V"⟩) ∈ lw_all := lw_g (lw_at lw_ms 3 rfl) rfl
theorem qs4 : (Cond.selects "CirculationRange" ⟨"CirculationRange", "moveAll", "(IIII)I"⟩ ⟨"CirculationRange", "moveAll", "(IIII)I"⟩) ∈ lw_all := lw_g (lw_at lw_ms 4 rfl) rfl
theorem qs5 : (Cond.selects "CirculationRange" ⟨"CirculationRange", "findWay", "(III)Z"⟩ ⟨"CirculationRange", "findWay", "(III)Z"⟩) ∈ lw_all := lw_g (lw_at lw_ms 5 rfl) rfl
theorem qs6 : (Cond.selects "CirculationRange" ⟨"CirculationRange", "across", "(II)I"⟩ ⟨"CirculationRange", "across", "(II)I"⟩) ∈ lw_all := lw_g (lw_at lw_ms 6 rfl) rfl
theorem qs7 : (Cond.selects "CirculationRange" ⟨"CirculationRange", "push", "(III)I"⟩ ⟨"CirculationRange", "push", "(III)I"⟩) ∈ lw_all := lw_g (lw_at lw_ms 7 rfl) rfl
theorem qs8 : (Cond.selects "CirculationRange" ⟨"CirculationRange", "roomOn", "(I)I"⟩ ⟨"CirculationRange", "roomOn", "(I)I"⟩) ∈ lw_all := lw_g (lw_at lw_ms 8 rfl) rfl
theorem qs9 : (Cond.selects "CirculationRangeModel" ⟨"CirculationRangeModel", "isVertex", "(I)Z"⟩ ⟨"CirculationRangeModel", "isVertex", "(I)Z"⟩) ∈ lw_all := lw_g (lw_at lw_ms 9 rfl) rfl
theorem qs10 : (Cond.selects "CirculationRangeModel" ⟨"CirculationRangeModel", "place", "(IIII)V"⟩ ⟨"CirculationRangeModel", "place", "(IIII)V"⟩) ∈ lw_all := lw_g (lw_at lw_ms 10 rfl) rfl
theorem qs11 : (Cond.selects "CirculationRangeModel" ⟨"CirculationRangeModel", "isArc", "(I)Z"⟩ ⟨"CirculationRangeModel", "isArc", "(I)Z"⟩) ∈ lw_all := lw_g (lw_at lw_ms 11 rfl) rfl
theorem qs12 : (Cond.selects "CirculationRangeModel" ⟨"CirculationRangeModel", "worst", "(I)I"⟩ ⟨"CirculationRangeModel", "worst", "(I)I"⟩) ∈ lw_all := lw_g (lw_at lw_ms 12 rfl) rfl
theorem qs13 : (Cond.selects "CirculationRangeModel" ⟨"CirculationRangeModel", "lackOf", "(II)I"⟩ ⟨"CirculationRangeModel", "lackOf", "(II)I"⟩) ∈ lw_all := lw_g (lw_at lw_ms 13 rfl) rfl
theorem qs14 : (Cond.selects "CirculationRangeModel" ⟨"CirculationRangeModel", "allows", "(II)Z"⟩ ⟨"CirculationRangeModel", "allows", "(II)Z"⟩) ∈ lw_all := lw_g (lw_at lw_ms 14 rfl) rfl
end
section
/-! CirculationRange -/
set_option maxRecDepth 100000
def RX0 : String := "CirculationRange"
def TX0 : u_T := fun k => match k with
  | 0 => ("CirculationRange", "count", "I", false)
  | 1 => ("CirculationRange", "from", "[I", true)
  | 2 => ("CirculationRange", "to", "[I", true)
  | 3 => ("CirculationRange", "low", "[I", true)
  | 4 => ("CirculationRange", "high", "[I", true)
  | 5 => ("CirculationRange", "tail", "[I", true)
  | 6 => ("CirculationRange", "head", "[I", true)
  | 7 => ("CirculationRange", "room", "[I", true)
  | 8 => ("CirculationRange", "flow", "[I", true)
  | 9 => ("CirculationRange", "need", "I", false)
  | 10 => ("CirculationRange", "sent", "I", false)
  | 11 => ("CirculationRange", "by", "[I", true)
  | _ => ("CirculationRange", "queue", "[I", true)
def tyX0 : Nat → FieldType := fun k => match k with
  | 0 => .int
  | 1 => .array .int
  | 2 => .array .int
  | 3 => .array .int
  | 4 => .array .int
  | 5 => .array .int
  | 6 => .array .int
  | 7 => .array .int
  | 8 => .array .int
  | 9 => .int
  | 10 => .int
  | 11 => .array .int
  | _ => .array .int
abbrev wsX00 : List Cond := u_ws RX0 TX0 13
set_option maxRecDepth 100000 in
theorem nmX0 : ∀ a, a < 13 → ∀ b, b < 13 → a ≠ b → (TX0 a).2.1 ≠ (TX0 b).2.1 := by decide +kernel
set_option maxRecDepth 100000 in
theorem tyX0_ok : ∀ k, k < 13 → parseFieldDescriptor (TX0 k).2.2.1 = some (tyX0 k) := by decide +kernel
abbrev cX0_init : ByteArray := prog_1_method_1_code
def yX0_init : MethodName := ⟨RX0, "<init>", "()V"⟩
theorem dX0_init_0 : decode cX0_init 0 = .ok (.aload_n 0, 1) := by decide +kernel
theorem dX0_init_1 : decode cX0_init 1 = .ok (.invokespecial 1, 3) := by decide +kernel
theorem dX0_init_4 : decode cX0_init 4 = .ok (.aload_n 0, 1) := by decide +kernel
theorem dX0_init_5 : decode cX0_init 5 = .ok (.bipush 12, 2) := by decide +kernel
theorem dX0_init_7 : decode cX0_init 7 = .ok (.newarray .int, 2) := by decide +kernel
theorem dX0_init_9 : decode cX0_init 9 = .ok (.putfield 7, 3) := by decide +kernel
theorem dX0_init_12 : decode cX0_init 12 = .ok (.aload_n 0, 1) := by decide +kernel
theorem dX0_init_13 : decode cX0_init 13 = .ok (.bipush 12, 2) := by decide +kernel
theorem dX0_init_15 : decode cX0_init 15 = .ok (.newarray .int, 2) := by decide +kernel
theorem dX0_init_17 : decode cX0_init 17 = .ok (.putfield 13, 3) := by decide +kernel
theorem dX0_init_20 : decode cX0_init 20 = .ok (.aload_n 0, 1) := by decide +kernel
theorem dX0_init_21 : decode cX0_init 21 = .ok (.bipush 12, 2) := by decide +kernel
theorem dX0_init_23 : decode cX0_init 23 = .ok (.newarray .int, 2) := by decide +kernel
theorem dX0_init_25 : decode cX0_init 25 = .ok (.putfield 16, 3) := by decide +kernel
theorem dX0_init_28 : decode cX0_init 28 = .ok (.aload_n 0, 1) := by decide +kernel
theorem dX0_init_29 : decode cX0_init 29 = .ok (.bipush 12, 2) := by decide +kernel
theorem dX0_init_31 : decode cX0_init 31 = .ok (.newarray .int, 2) := by decide +kernel
theorem dX0_init_33 : decode cX0_init 33 = .ok (.putfield 19, 3) := by decide +kernel
theorem dX0_init_36 : decode cX0_init 36 = .ok (.aload_n 0, 1) := by decide +kernel
theorem dX0_init_37 : decode cX0_init 37 = .ok (.bipush 25, 2) := by decide +kernel
theorem dX0_init_39 : decode cX0_init 39 = .ok (.newarray .int, 2) := by decide +kernel
theorem dX0_init_41 : decode cX0_init 41 = .ok (.putfield 22, 3) := by decide +kernel
theorem dX0_init_44 : decode cX0_init 44 = .ok (.aload_n 0, 1) := by decide +kernel
theorem dX0_init_45 : decode cX0_init 45 = .ok (.bipush 25, 2) := by decide +kernel
theorem dX0_init_47 : decode cX0_init 47 = .ok (.newarray .int, 2) := by decide +kernel
theorem dX0_init_49 : decode cX0_init 49 = .ok (.putfield 25, 3) := by decide +kernel
theorem dX0_init_52 : decode cX0_init 52 = .ok (.aload_n 0, 1) := by decide +kernel
theorem dX0_init_53 : decode cX0_init 53 = .ok (.bipush 25, 2) := by decide +kernel
theorem dX0_init_55 : decode cX0_init 55 = .ok (.newarray .int, 2) := by decide +kernel
theorem dX0_init_57 : decode cX0_init 57 = .ok (.putfield 28, 3) := by decide +kernel
theorem dX0_init_60 : decode cX0_init 60 = .ok (.aload_n 0, 1) := by decide +kernel
theorem dX0_init_61 : decode cX0_init 61 = .ok (.bipush 25, 2) := by decide +kernel
theorem dX0_init_63 : decode cX0_init 63 = .ok (.newarray .int, 2) := by decide +kernel
theorem dX0_init_65 : decode cX0_init 65 = .ok (.putfield 31, 3) := by decide +kernel
theorem dX0_init_68 : decode cX0_init 68 = .ok (.aload_n 0, 1) := by decide +kernel
theorem dX0_init_69 : decode cX0_init 69 = .ok (.bipush 8, 2) := by decide +kernel
theorem dX0_init_71 : decode cX0_init 71 = .ok (.newarray .int, 2) := by decide +kernel
theorem dX0_init_73 : decode cX0_init 73 = .ok (.putfield 34, 3) := by decide +kernel
theorem dX0_init_76 : decode cX0_init 76 = .ok (.aload_n 0, 1) := by decide +kernel
theorem dX0_init_77 : decode cX0_init 77 = .ok (.bipush 8, 2) := by decide +kernel
theorem dX0_init_79 : decode cX0_init 79 = .ok (.newarray .int, 2) := by decide +kernel
theorem dX0_init_81 : decode cX0_init 81 = .ok (.putfield 37, 3) := by decide +kernel
theorem dX0_init_84 : decode cX0_init 84 = .ok (.aload_n 0, 1) := by decide +kernel
theorem dX0_init_85 : decode cX0_init 85 = .ok (.iconst 0, 1) := by decide +kernel
theorem dX0_init_86 : decode cX0_init 86 = .ok (.putfield 40, 3) := by decide +kernel
theorem dX0_init_89 : decode cX0_init 89 = .ok (.return_, 1) := by decide +kernel
abbrev cX0_arc : ByteArray := prog_1_method_4_code
def yX0_arc : MethodName := ⟨RX0, "arc", "(III)I"⟩
theorem dX0_arc_0 : decode cX0_arc 0 = .ok (.iload_n 1, 1) := by decide +kernel
theorem dX0_arc_1 : decode cX0_arc 1 = .ok (.invokestatic 44, 3) := by decide +kernel
theorem dX0_arc_4 : decode cX0_arc 4 = .ok (.ifCond .ne 15, 3) := by decide +kernel
theorem dX0_arc_7 : decode cX0_arc 7 = .ok (.iload_n 2, 1) := by decide +kernel
theorem dX0_arc_8 : decode cX0_arc 8 = .ok (.invokestatic 44, 3) := by decide +kernel
theorem dX0_arc_11 : decode cX0_arc 11 = .ok (.ifCond .ne 8, 3) := by decide +kernel
theorem dX0_arc_14 : decode cX0_arc 14 = .ok (.iload_n 1, 1) := by decide +kernel
theorem dX0_arc_15 : decode cX0_arc 15 = .ok (.iload_n 2, 1) := by decide +kernel
theorem dX0_arc_16 : decode cX0_arc 16 = .ok (.if_icmp .ne 5, 3) := by decide +kernel
theorem dX0_arc_19 : decode cX0_arc 19 = .ok (.iconst (-1), 1) := by decide +kernel
theorem dX0_arc_20 : decode cX0_arc 20 = .ok (.ireturn, 1) := by decide +kernel
theorem dX0_arc_21 : decode cX0_arc 21 = .ok (.iload_n 3, 1) := by decide +kernel
theorem dX0_arc_22 : decode cX0_arc 22 = .ok (.ifCond .lt 9, 3) := by decide +kernel
theorem dX0_arc_25 : decode cX0_arc 25 = .ok (.iload_n 3, 1) := by decide +kernel
theorem dX0_arc_26 : decode cX0_arc 26 = .ok (.bipush 20, 2) := by decide +kernel
theorem dX0_arc_28 : decode cX0_arc 28 = .ok (.if_icmp .le 6, 3) := by decide +kernel
theorem dX0_arc_31 : decode cX0_arc 31 = .ok (.bipush (-2), 2) := by decide +kernel
theorem dX0_arc_33 : decode cX0_arc 33 = .ok (.ireturn, 1) := by decide +kernel
theorem dX0_arc_34 : decode cX0_arc 34 = .ok (.aload_n 0, 1) := by decide +kernel
theorem dX0_arc_35 : decode cX0_arc 35 = .ok (.getfield 40, 3) := by decide +kernel
theorem dX0_arc_38 : decode cX0_arc 38 = .ok (.bipush 12, 2) := by decide +kernel
theorem dX0_arc_40 : decode cX0_arc 40 = .ok (.if_icmp .lt 6, 3) := by decide +kernel
theorem dX0_arc_43 : decode cX0_arc 43 = .ok (.bipush (-3), 2) := by decide +kernel
theorem dX0_arc_45 : decode cX0_arc 45 = .ok (.ireturn, 1) := by decide +kernel
theorem dX0_arc_46 : decode cX0_arc 46 = .ok (.aload_n 0, 1) := by decide +kernel
theorem dX0_arc_47 : decode cX0_arc 47 = .ok (.getfield 40, 3) := by decide +kernel
theorem dX0_arc_50 : decode cX0_arc 50 = .ok (.istore 4, 2) := by decide +kernel
theorem dX0_arc_52 : decode cX0_arc 52 = .ok (.aload_n 0, 1) := by decide +kernel
theorem dX0_arc_53 : decode cX0_arc 53 = .ok (.getfield 7, 3) := by decide +kernel
theorem dX0_arc_56 : decode cX0_arc 56 = .ok (.iload 4, 2) := by decide +kernel
theorem dX0_arc_58 : decode cX0_arc 58 = .ok (.iload_n 1, 1) := by decide +kernel
theorem dX0_arc_59 : decode cX0_arc 59 = .ok (.iastore, 1) := by decide +kernel
theorem dX0_arc_60 : decode cX0_arc 60 = .ok (.aload_n 0, 1) := by decide +kernel
theorem dX0_arc_61 : decode cX0_arc 61 = .ok (.getfield 13, 3) := by decide +kernel
theorem dX0_arc_64 : decode cX0_arc 64 = .ok (.iload 4, 2) := by decide +kernel
theorem dX0_arc_66 : decode cX0_arc 66 = .ok (.iload_n 2, 1) := by decide +kernel
theorem dX0_arc_67 : decode cX0_arc 67 = .ok (.iastore, 1) := by decide +kernel
theorem dX0_arc_68 : decode cX0_arc 68 = .ok (.aload_n 0, 1) := by decide +kernel
theorem dX0_arc_69 : decode cX0_arc 69 = .ok (.getfield 16, 3) := by decide +kernel
theorem dX0_arc_72 : decode cX0_arc 72 = .ok (.iload 4, 2) := by decide +kernel
theorem dX0_arc_74 : decode cX0_arc 74 = .ok (.iconst 0, 1) := by decide +kernel
theorem dX0_arc_75 : decode cX0_arc 75 = .ok (.iastore, 1) := by decide +kernel
theorem dX0_arc_76 : decode cX0_arc 76 = .ok (.aload_n 0, 1) := by decide +kernel
theorem dX0_arc_77 : decode cX0_arc 77 = .ok (.getfield 19, 3) := by decide +kernel
theorem dX0_arc_80 : decode cX0_arc 80 = .ok (.iload 4, 2) := by decide +kernel
theorem dX0_arc_82 : decode cX0_arc 82 = .ok (.iload_n 3, 1) := by decide +kernel
theorem dX0_arc_83 : decode cX0_arc 83 = .ok (.iastore, 1) := by decide +kernel
theorem dX0_arc_84 : decode cX0_arc 84 = .ok (.aload_n 0, 1) := by decide +kernel
theorem dX0_arc_85 : decode cX0_arc 85 = .ok (.dup, 1) := by decide +kernel
theorem dX0_arc_86 : decode cX0_arc 86 = .ok (.getfield 40, 3) := by decide +kernel
theorem dX0_arc_89 : decode cX0_arc 89 = .ok (.iconst 1, 1) := by decide +kernel
theorem dX0_arc_90 : decode cX0_arc 90 = .ok (.iadd, 1) := by decide +kernel
theorem dX0_arc_91 : decode cX0_arc 91 = .ok (.putfield 40, 3) := by decide +kernel
theorem dX0_arc_94 : decode cX0_arc 94 = .ok (.iload 4, 2) := by decide +kernel
theorem dX0_arc_96 : decode cX0_arc 96 = .ok (.ireturn, 1) := by decide +kernel
abbrev cX0_badVertex : ByteArray := prog_1_method_2_code
def yX0_badVertex : MethodName := ⟨RX0, "badVertex", "(I)Z"⟩
theorem dX0_badVertex_0 : decode cX0_badVertex 0 = .ok (.iload_n 0, 1) := by decide +kernel
theorem dX0_badVertex_1 : decode cX0_badVertex 1 = .ok (.ifCond .lt 9, 3) := by decide +kernel
theorem dX0_badVertex_4 : decode cX0_badVertex 4 = .ok (.iload_n 0, 1) := by decide +kernel
theorem dX0_badVertex_5 : decode cX0_badVertex 5 = .ok (.bipush 6, 2) := by decide +kernel
theorem dX0_badVertex_7 : decode cX0_badVertex 7 = .ok (.if_icmp .lt 7, 3) := by decide +kernel
theorem dX0_badVertex_10 : decode cX0_badVertex 10 = .ok (.iconst 1, 1) := by decide +kernel
theorem dX0_badVertex_11 : decode cX0_badVertex 11 = .ok (.goto 4, 3) := by decide +kernel
theorem dX0_badVertex_14 : decode cX0_badVertex 14 = .ok (.iconst 0, 1) := by decide +kernel
theorem dX0_badVertex_15 : decode cX0_badVertex 15 = .ok (.ireturn, 1) := by decide +kernel
abbrev cX0_bounds : ByteArray := prog_1_method_5_code
def yX0_bounds : MethodName := ⟨RX0, "bounds", "(III)I"⟩
theorem dX0_bounds_0 : decode cX0_bounds 0 = .ok (.aload_n 0, 1) := by decide +kernel
theorem dX0_bounds_1 : decode cX0_bounds 1 = .ok (.iload_n 1, 1) := by decide +kernel
theorem dX0_bounds_2 : decode cX0_bounds 2 = .ok (.invokevirtual 48, 3) := by decide +kernel
theorem dX0_bounds_5 : decode cX0_bounds 5 = .ok (.ifCond .eq 6, 3) := by decide +kernel
theorem dX0_bounds_8 : decode cX0_bounds 8 = .ok (.bipush (-4), 2) := by decide +kernel
theorem dX0_bounds_10 : decode cX0_bounds 10 = .ok (.ireturn, 1) := by decide +kernel
theorem dX0_bounds_11 : decode cX0_bounds 11 = .ok (.iload_n 2, 1) := by decide +kernel
theorem dX0_bounds_12 : decode cX0_bounds 12 = .ok (.ifCond .lt 14, 3) := by decide +kernel
theorem dX0_bounds_15 : decode cX0_bounds 15 = .ok (.iload_n 2, 1) := by decide +kernel
theorem dX0_bounds_16 : decode cX0_bounds 16 = .ok (.iload_n 3, 1) := by decide +kernel
theorem dX0_bounds_17 : decode cX0_bounds 17 = .ok (.if_icmp .gt 9, 3) := by decide +kernel
theorem dX0_bounds_20 : decode cX0_bounds 20 = .ok (.iload_n 3, 1) := by decide +kernel
theorem dX0_bounds_21 : decode cX0_bounds 21 = .ok (.bipush 20, 2) := by decide +kernel
theorem dX0_bounds_23 : decode cX0_bounds 23 = .ok (.if_icmp .le 6, 3) := by decide +kernel
theorem dX0_bounds_26 : decode cX0_bounds 26 = .ok (.bipush (-2), 2) := by decide +kernel
theorem dX0_bounds_28 : decode cX0_bounds 28 = .ok (.ireturn, 1) := by decide +kernel
theorem dX0_bounds_29 : decode cX0_bounds 29 = .ok (.aload_n 0, 1) := by decide +kernel
theorem dX0_bounds_30 : decode cX0_bounds 30 = .ok (.getfield 16, 3) := by decide +kernel
theorem dX0_bounds_33 : decode cX0_bounds 33 = .ok (.iload_n 1, 1) := by decide +kernel
theorem dX0_bounds_34 : decode cX0_bounds 34 = .ok (.iload_n 2, 1) := by decide +kernel
theorem dX0_bounds_35 : decode cX0_bounds 35 = .ok (.iastore, 1) := by decide +kernel
theorem dX0_bounds_36 : decode cX0_bounds 36 = .ok (.aload_n 0, 1) := by decide +kernel
theorem dX0_bounds_37 : decode cX0_bounds 37 = .ok (.getfield 19, 3) := by decide +kernel
theorem dX0_bounds_40 : decode cX0_bounds 40 = .ok (.iload_n 1, 1) := by decide +kernel
theorem dX0_bounds_41 : decode cX0_bounds 41 = .ok (.iload_n 3, 1) := by decide +kernel
theorem dX0_bounds_42 : decode cX0_bounds 42 = .ok (.iastore, 1) := by decide +kernel
theorem dX0_bounds_43 : decode cX0_bounds 43 = .ok (.iconst 0, 1) := by decide +kernel
theorem dX0_bounds_44 : decode cX0_bounds 44 = .ok (.ireturn, 1) := by decide +kernel
abbrev cX0_noArc : ByteArray := prog_1_method_3_code
def yX0_noArc : MethodName := ⟨RX0, "noArc", "(I)Z"⟩
theorem dX0_noArc_0 : decode cX0_noArc 0 = .ok (.iload_n 1, 1) := by decide +kernel
theorem dX0_noArc_1 : decode cX0_noArc 1 = .ok (.ifCond .lt 11, 3) := by decide +kernel
theorem dX0_noArc_4 : decode cX0_noArc 4 = .ok (.iload_n 1, 1) := by decide +kernel
theorem dX0_noArc_5 : decode cX0_noArc 5 = .ok (.aload_n 0, 1) := by decide +kernel
theorem dX0_noArc_6 : decode cX0_noArc 6 = .ok (.getfield 40, 3) := by decide +kernel
theorem dX0_noArc_9 : decode cX0_noArc 9 = .ok (.if_icmp .lt 7, 3) := by decide +kernel
theorem dX0_noArc_12 : decode cX0_noArc 12 = .ok (.iconst 1, 1) := by decide +kernel
theorem dX0_noArc_13 : decode cX0_noArc 13 = .ok (.goto 4, 3) := by decide +kernel
theorem dX0_noArc_16 : decode cX0_noArc 16 = .ok (.iconst 0, 1) := by decide +kernel
theorem dX0_noArc_17 : decode cX0_noArc 17 = .ok (.ireturn, 1) := by decide +kernel
abbrev cX0_reverse : ByteArray := prog_1_method_6_code
def yX0_reverse : MethodName := ⟨RX0, "reverse", "(I)I"⟩
theorem dX0_reverse_0 : decode cX0_reverse 0 = .ok (.aload_n 0, 1) := by decide +kernel
theorem dX0_reverse_1 : decode cX0_reverse 1 = .ok (.iload_n 1, 1) := by decide +kernel
theorem dX0_reverse_2 : decode cX0_reverse 2 = .ok (.invokevirtual 48, 3) := by decide +kernel
theorem dX0_reverse_5 : decode cX0_reverse 5 = .ok (.ifCond .eq 6, 3) := by decide +kernel
theorem dX0_reverse_8 : decode cX0_reverse 8 = .ok (.bipush (-4), 2) := by decide +kernel
theorem dX0_reverse_10 : decode cX0_reverse 10 = .ok (.ireturn, 1) := by decide +kernel
theorem dX0_reverse_11 : decode cX0_reverse 11 = .ok (.aload_n 0, 1) := by decide +kernel
theorem dX0_reverse_12 : decode cX0_reverse 12 = .ok (.getfield 7, 3) := by decide +kernel
theorem dX0_reverse_15 : decode cX0_reverse 15 = .ok (.iload_n 1, 1) := by decide +kernel
theorem dX0_reverse_16 : decode cX0_reverse 16 = .ok (.iaload, 1) := by decide +kernel
theorem dX0_reverse_17 : decode cX0_reverse 17 = .ok (.istore_n 2, 1) := by decide +kernel
theorem dX0_reverse_18 : decode cX0_reverse 18 = .ok (.aload_n 0, 1) := by decide +kernel
theorem dX0_reverse_19 : decode cX0_reverse 19 = .ok (.getfield 7, 3) := by decide +kernel
theorem dX0_reverse_22 : decode cX0_reverse 22 = .ok (.iload_n 1, 1) := by decide +kernel
theorem dX0_reverse_23 : decode cX0_reverse 23 = .ok (.aload_n 0, 1) := by decide +kernel
theorem dX0_reverse_24 : decode cX0_reverse 24 = .ok (.getfield 13, 3) := by decide +kernel
theorem dX0_reverse_27 : decode cX0_reverse 27 = .ok (.iload_n 1, 1) := by decide +kernel
theorem dX0_reverse_28 : decode cX0_reverse 28 = .ok (.iaload, 1) := by decide +kernel
theorem dX0_reverse_29 : decode cX0_reverse 29 = .ok (.iastore, 1) := by decide +kernel
theorem dX0_reverse_30 : decode cX0_reverse 30 = .ok (.aload_n 0, 1) := by decide +kernel
theorem dX0_reverse_31 : decode cX0_reverse 31 = .ok (.getfield 13, 3) := by decide +kernel
theorem dX0_reverse_34 : decode cX0_reverse 34 = .ok (.iload_n 1, 1) := by decide +kernel
theorem dX0_reverse_35 : decode cX0_reverse 35 = .ok (.iload_n 2, 1) := by decide +kernel
theorem dX0_reverse_36 : decode cX0_reverse 36 = .ok (.iastore, 1) := by decide +kernel
theorem dX0_reverse_37 : decode cX0_reverse 37 = .ok (.iconst 0, 1) := by decide +kernel
theorem dX0_reverse_38 : decode cX0_reverse 38 = .ok (.ireturn, 1) := by decide +kernel
abbrev cX0_dropLast : ByteArray := prog_1_method_7_code
def yX0_dropLast : MethodName := ⟨RX0, "dropLast", "()I"⟩
theorem dX0_dropLast_0 : decode cX0_dropLast 0 = .ok (.aload_n 0, 1) := by decide +kernel
theorem dX0_dropLast_1 : decode cX0_dropLast 1 = .ok (.getfield 40, 3) := by decide +kernel
theorem dX0_dropLast_4 : decode cX0_dropLast 4 = .ok (.ifCond .ne 6, 3) := by decide +kernel
theorem dX0_dropLast_7 : decode cX0_dropLast 7 = .ok (.bipush (-4), 2) := by decide +kernel
theorem dX0_dropLast_9 : decode cX0_dropLast 9 = .ok (.ireturn, 1) := by decide +kernel
theorem dX0_dropLast_10 : decode cX0_dropLast 10 = .ok (.aload_n 0, 1) := by decide +kernel
theorem dX0_dropLast_11 : decode cX0_dropLast 11 = .ok (.dup, 1) := by decide +kernel
theorem dX0_dropLast_12 : decode cX0_dropLast 12 = .ok (.getfield 40, 3) := by decide +kernel
theorem dX0_dropLast_15 : decode cX0_dropLast 15 = .ok (.iconst 1, 1) := by decide +kernel
theorem dX0_dropLast_16 : decode cX0_dropLast 16 = .ok (.isub, 1) := by decide +kernel
theorem dX0_dropLast_17 : decode cX0_dropLast 17 = .ok (.putfield 40, 3) := by decide +kernel
theorem dX0_dropLast_20 : decode cX0_dropLast 20 = .ok (.aload_n 0, 1) := by decide +kernel
theorem dX0_dropLast_21 : decode cX0_dropLast 21 = .ok (.getfield 40, 3) := by decide +kernel
theorem dX0_dropLast_24 : decode cX0_dropLast 24 = .ok (.ireturn, 1) := by decide +kernel
abbrev cX0_possible : ByteArray := prog_1_method_16_code
def yX0_possible : MethodName := ⟨RX0, "possible", "()Z"⟩
theorem dX0_possible_0 : decode cX0_possible 0 = .ok (.aload_n 0, 1) := by decide +kernel
theorem dX0_possible_1 : decode cX0_possible 1 = .ok (.invokevirtual 81, 3) := by decide +kernel
theorem dX0_possible_4 : decode cX0_possible 4 = .ok (.aload_n 0, 1) := by decide +kernel
theorem dX0_possible_5 : decode cX0_possible 5 = .ok (.invokevirtual 84, 3) := by decide +kernel
theorem dX0_possible_8 : decode cX0_possible 8 = .ok (.aload_n 0, 1) := by decide +kernel
theorem dX0_possible_9 : decode cX0_possible 9 = .ok (.getfield 78, 3) := by decide +kernel
theorem dX0_possible_12 : decode cX0_possible 12 = .ok (.aload_n 0, 1) := by decide +kernel
theorem dX0_possible_13 : decode cX0_possible 13 = .ok (.getfield 71, 3) := by decide +kernel
theorem dX0_possible_16 : decode cX0_possible 16 = .ok (.if_icmp .ne 7, 3) := by decide +kernel
theorem dX0_possible_19 : decode cX0_possible 19 = .ok (.iconst 1, 1) := by decide +kernel
theorem dX0_possible_20 : decode cX0_possible 20 = .ok (.goto 4, 3) := by decide +kernel
theorem dX0_possible_23 : decode cX0_possible 23 = .ok (.iconst 0, 1) := by decide +kernel
theorem dX0_possible_24 : decode cX0_possible 24 = .ok (.ireturn, 1) := by decide +kernel
end
section
set_option maxRecDepth 100000
abbrev cX0_build : ByteArray := prog_1_method_9_code
def yX0_build : MethodName := ⟨RX0, "build", "()V"⟩
theorem dX0_build_0 : decode cX0_build 0 = .ok (.iconst 0, 1) := by decide +kernel
theorem dX0_build_1 : decode cX0_build 1 = .ok (.istore_n 1, 1) := by decide +kernel
theorem dX0_build_2 : decode cX0_build 2 = .ok (.iload_n 1, 1) := by decide +kernel
theorem dX0_build_3 : decode cX0_build 3 = .ok (.bipush 6, 2) := by decide +kernel
theorem dX0_build_5 : decode cX0_build 5 = .ok (.if_icmp .ge 33, 3) := by decide +kernel
theorem dX0_build_8 : decode cX0_build 8 = .ok (.aload_n 0, 1) := by decide +kernel
theorem dX0_build_9 : decode cX0_build 9 = .ok (.bipush 13, 2) := by decide +kernel
theorem dX0_build_11 : decode cX0_build 11 = .ok (.iload_n 1, 1) := by decide +kernel
theorem dX0_build_12 : decode cX0_build 12 = .ok (.iadd, 1) := by decide +kernel
theorem dX0_build_13 : decode cX0_build 13 = .ok (.bipush 6, 2) := by decide +kernel
theorem dX0_build_15 : decode cX0_build 15 = .ok (.iload_n 1, 1) := by decide +kernel
theorem dX0_build_16 : decode cX0_build 16 = .ok (.iconst 0, 1) := by decide +kernel
theorem dX0_build_17 : decode cX0_build 17 = .ok (.invokevirtual 51, 3) := by decide +kernel
theorem dX0_build_20 : decode cX0_build 20 = .ok (.aload_n 0, 1) := by decide +kernel
theorem dX0_build_21 : decode cX0_build 21 = .ok (.bipush 19, 2) := by decide +kernel
theorem dX0_build_23 : decode cX0_build 23 = .ok (.iload_n 1, 1) := by decide +kernel
theorem dX0_build_24 : decode cX0_build 24 = .ok (.iadd, 1) := by decide +kernel
theorem dX0_build_25 : decode cX0_build 25 = .ok (.iload_n 1, 1) := by decide +kernel
theorem dX0_build_26 : decode cX0_build 26 = .ok (.bipush 7, 2) := by decide +kernel
theorem dX0_build_28 : decode cX0_build 28 = .ok (.iconst 0, 1) := by decide +kernel
theorem dX0_build_29 : decode cX0_build 29 = .ok (.invokevirtual 51, 3) := by decide +kernel
theorem dX0_build_32 : decode cX0_build 32 = .ok (.iinc 1 1, 3) := by decide +kernel
theorem dX0_build_35 : decode cX0_build 35 = .ok (.goto (-33), 3) := by decide +kernel
theorem dX0_build_38 : decode cX0_build 38 = .ok (.iconst 0, 1) := by decide +kernel
theorem dX0_build_39 : decode cX0_build 39 = .ok (.istore_n 1, 1) := by decide +kernel
theorem dX0_build_40 : decode cX0_build 40 = .ok (.iload_n 1, 1) := by decide +kernel
theorem dX0_build_41 : decode cX0_build 41 = .ok (.bipush 12, 2) := by decide +kernel
theorem dX0_build_43 : decode cX0_build 43 = .ok (.if_icmp .ge 77, 3) := by decide +kernel
theorem dX0_build_46 : decode cX0_build 46 = .ok (.iload_n 1, 1) := by decide +kernel
theorem dX0_build_47 : decode cX0_build 47 = .ok (.aload_n 0, 1) := by decide +kernel
theorem dX0_build_48 : decode cX0_build 48 = .ok (.getfield 40, 3) := by decide +kernel
theorem dX0_build_51 : decode cX0_build 51 = .ok (.if_icmp .ge 7, 3) := by decide +kernel
theorem dX0_build_54 : decode cX0_build 54 = .ok (.iconst 1, 1) := by decide +kernel
theorem dX0_build_55 : decode cX0_build 55 = .ok (.goto 4, 3) := by decide +kernel
theorem dX0_build_58 : decode cX0_build 58 = .ok (.iconst 0, 1) := by decide +kernel
theorem dX0_build_59 : decode cX0_build 59 = .ok (.istore_n 2, 1) := by decide +kernel
theorem dX0_build_60 : decode cX0_build 60 = .ok (.aload_n 0, 1) := by decide +kernel
theorem dX0_build_61 : decode cX0_build 61 = .ok (.iload_n 1, 1) := by decide +kernel
theorem dX0_build_62 : decode cX0_build 62 = .ok (.iload_n 2, 1) := by decide +kernel
theorem dX0_build_63 : decode cX0_build 63 = .ok (.ifCond .eq 12, 3) := by decide +kernel
theorem dX0_build_66 : decode cX0_build 66 = .ok (.aload_n 0, 1) := by decide +kernel
theorem dX0_build_67 : decode cX0_build 67 = .ok (.getfield 7, 3) := by decide +kernel
theorem dX0_build_70 : decode cX0_build 70 = .ok (.iload_n 1, 1) := by decide +kernel
theorem dX0_build_71 : decode cX0_build 71 = .ok (.iaload, 1) := by decide +kernel
theorem dX0_build_72 : decode cX0_build 72 = .ok (.goto 4, 3) := by decide +kernel
theorem dX0_build_75 : decode cX0_build 75 = .ok (.iconst 0, 1) := by decide +kernel
theorem dX0_build_76 : decode cX0_build 76 = .ok (.iload_n 2, 1) := by decide +kernel
theorem dX0_build_77 : decode cX0_build 77 = .ok (.ifCond .eq 12, 3) := by decide +kernel
theorem dX0_build_80 : decode cX0_build 80 = .ok (.aload_n 0, 1) := by decide +kernel
theorem dX0_build_81 : decode cX0_build 81 = .ok (.getfield 13, 3) := by decide +kernel
theorem dX0_build_84 : decode cX0_build 84 = .ok (.iload_n 1, 1) := by decide +kernel
theorem dX0_build_85 : decode cX0_build 85 = .ok (.iaload, 1) := by decide +kernel
theorem dX0_build_86 : decode cX0_build 86 = .ok (.goto 4, 3) := by decide +kernel
theorem dX0_build_89 : decode cX0_build 89 = .ok (.iconst 0, 1) := by decide +kernel
theorem dX0_build_90 : decode cX0_build 90 = .ok (.iload_n 2, 1) := by decide +kernel
theorem dX0_build_91 : decode cX0_build 91 = .ok (.ifCond .eq 19, 3) := by decide +kernel
theorem dX0_build_94 : decode cX0_build 94 = .ok (.aload_n 0, 1) := by decide +kernel
theorem dX0_build_95 : decode cX0_build 95 = .ok (.getfield 19, 3) := by decide +kernel
theorem dX0_build_98 : decode cX0_build 98 = .ok (.iload_n 1, 1) := by decide +kernel
theorem dX0_build_99 : decode cX0_build 99 = .ok (.iaload, 1) := by decide +kernel
theorem dX0_build_100 : decode cX0_build 100 = .ok (.aload_n 0, 1) := by decide +kernel
theorem dX0_build_101 : decode cX0_build 101 = .ok (.getfield 16, 3) := by decide +kernel
theorem dX0_build_104 : decode cX0_build 104 = .ok (.iload_n 1, 1) := by decide +kernel
theorem dX0_build_105 : decode cX0_build 105 = .ok (.iaload, 1) := by decide +kernel
theorem dX0_build_106 : decode cX0_build 106 = .ok (.isub, 1) := by decide +kernel
theorem dX0_build_107 : decode cX0_build 107 = .ok (.goto 4, 3) := by decide +kernel
theorem dX0_build_110 : decode cX0_build 110 = .ok (.iconst 0, 1) := by decide +kernel
theorem dX0_build_111 : decode cX0_build 111 = .ok (.invokevirtual 51, 3) := by decide +kernel
theorem dX0_build_114 : decode cX0_build 114 = .ok (.iinc 1 1, 3) := by decide +kernel
theorem dX0_build_117 : decode cX0_build 117 = .ok (.goto (-77), 3) := by decide +kernel
theorem dX0_build_120 : decode cX0_build 120 = .ok (.aload_n 0, 1) := by decide +kernel
theorem dX0_build_121 : decode cX0_build 121 = .ok (.bipush 12, 2) := by decide +kernel
theorem dX0_build_123 : decode cX0_build 123 = .ok (.iconst 0, 1) := by decide +kernel
theorem dX0_build_124 : decode cX0_build 124 = .ok (.iconst 0, 1) := by decide +kernel
theorem dX0_build_125 : decode cX0_build 125 = .ok (.iconst 0, 1) := by decide +kernel
theorem dX0_build_126 : decode cX0_build 126 = .ok (.invokevirtual 51, 3) := by decide +kernel
theorem dX0_build_129 : decode cX0_build 129 = .ok (.iconst 0, 1) := by decide +kernel
theorem dX0_build_130 : decode cX0_build 130 = .ok (.istore_n 1, 1) := by decide +kernel
theorem dX0_build_131 : decode cX0_build 131 = .ok (.iload_n 1, 1) := by decide +kernel
theorem dX0_build_132 : decode cX0_build 132 = .ok (.bipush 6, 2) := by decide +kernel
theorem dX0_build_134 : decode cX0_build 134 = .ok (.if_icmp .ge 93, 3) := by decide +kernel
theorem dX0_build_137 : decode cX0_build 137 = .ok (.iconst 0, 1) := by decide +kernel
theorem dX0_build_138 : decode cX0_build 138 = .ok (.istore_n 2, 1) := by decide +kernel
theorem dX0_build_139 : decode cX0_build 139 = .ok (.iconst 0, 1) := by decide +kernel
theorem dX0_build_140 : decode cX0_build 140 = .ok (.istore_n 3, 1) := by decide +kernel
theorem dX0_build_141 : decode cX0_build 141 = .ok (.iload_n 3, 1) := by decide +kernel
theorem dX0_build_142 : decode cX0_build 142 = .ok (.aload_n 0, 1) := by decide +kernel
theorem dX0_build_143 : decode cX0_build 143 = .ok (.getfield 40, 3) := by decide +kernel
theorem dX0_build_146 : decode cX0_build 146 = .ok (.if_icmp .ge 47, 3) := by decide +kernel
theorem dX0_build_149 : decode cX0_build 149 = .ok (.aload_n 0, 1) := by decide +kernel
theorem dX0_build_150 : decode cX0_build 150 = .ok (.getfield 13, 3) := by decide +kernel
theorem dX0_build_153 : decode cX0_build 153 = .ok (.iload_n 3, 1) := by decide +kernel
theorem dX0_build_154 : decode cX0_build 154 = .ok (.iaload, 1) := by decide +kernel
theorem dX0_build_155 : decode cX0_build 155 = .ok (.iload_n 1, 1) := by decide +kernel
theorem dX0_build_156 : decode cX0_build 156 = .ok (.if_icmp .ne 12, 3) := by decide +kernel
theorem dX0_build_159 : decode cX0_build 159 = .ok (.iload_n 2, 1) := by decide +kernel
theorem dX0_build_160 : decode cX0_build 160 = .ok (.aload_n 0, 1) := by decide +kernel
theorem dX0_build_161 : decode cX0_build 161 = .ok (.getfield 16, 3) := by decide +kernel
theorem dX0_build_164 : decode cX0_build 164 = .ok (.iload_n 3, 1) := by decide +kernel
theorem dX0_build_165 : decode cX0_build 165 = .ok (.iaload, 1) := by decide +kernel
theorem dX0_build_166 : decode cX0_build 166 = .ok (.iadd, 1) := by decide +kernel
theorem dX0_build_167 : decode cX0_build 167 = .ok (.istore_n 2, 1) := by decide +kernel
theorem dX0_build_168 : decode cX0_build 168 = .ok (.aload_n 0, 1) := by decide +kernel
theorem dX0_build_169 : decode cX0_build 169 = .ok (.getfield 7, 3) := by decide +kernel
theorem dX0_build_172 : decode cX0_build 172 = .ok (.iload_n 3, 1) := by decide +kernel
theorem dX0_build_173 : decode cX0_build 173 = .ok (.iaload, 1) := by decide +kernel
theorem dX0_build_174 : decode cX0_build 174 = .ok (.iload_n 1, 1) := by decide +kernel
theorem dX0_build_175 : decode cX0_build 175 = .ok (.if_icmp .ne 12, 3) := by decide +kernel
theorem dX0_build_178 : decode cX0_build 178 = .ok (.iload_n 2, 1) := by decide +kernel
theorem dX0_build_179 : decode cX0_build 179 = .ok (.aload_n 0, 1) := by decide +kernel
theorem dX0_build_180 : decode cX0_build 180 = .ok (.getfield 16, 3) := by decide +kernel
theorem dX0_build_183 : decode cX0_build 183 = .ok (.iload_n 3, 1) := by decide +kernel
theorem dX0_build_184 : decode cX0_build 184 = .ok (.iaload, 1) := by decide +kernel
theorem dX0_build_185 : decode cX0_build 185 = .ok (.isub, 1) := by decide +kernel
theorem dX0_build_186 : decode cX0_build 186 = .ok (.istore_n 2, 1) := by decide +kernel
theorem dX0_build_187 : decode cX0_build 187 = .ok (.iinc 3 1, 3) := by decide +kernel
theorem dX0_build_190 : decode cX0_build 190 = .ok (.goto (-49), 3) := by decide +kernel
theorem dX0_build_193 : decode cX0_build 193 = .ok (.iload_n 2, 1) := by decide +kernel
theorem dX0_build_194 : decode cX0_build 194 = .ok (.ifCond .le 16, 3) := by decide +kernel
theorem dX0_build_197 : decode cX0_build 197 = .ok (.aload_n 0, 1) := by decide +kernel
theorem dX0_build_198 : decode cX0_build 198 = .ok (.getfield 28, 3) := by decide +kernel
theorem dX0_build_201 : decode cX0_build 201 = .ok (.bipush 13, 2) := by decide +kernel
theorem dX0_build_203 : decode cX0_build 203 = .ok (.iload_n 1, 1) := by decide +kernel
theorem dX0_build_204 : decode cX0_build 204 = .ok (.iadd, 1) := by decide +kernel
theorem dX0_build_205 : decode cX0_build 205 = .ok (.iload_n 2, 1) := by decide +kernel
theorem dX0_build_206 : decode cX0_build 206 = .ok (.iastore, 1) := by decide +kernel
theorem dX0_build_207 : decode cX0_build 207 = .ok (.goto 14, 3) := by decide +kernel
theorem dX0_build_210 : decode cX0_build 210 = .ok (.aload_n 0, 1) := by decide +kernel
theorem dX0_build_211 : decode cX0_build 211 = .ok (.getfield 28, 3) := by decide +kernel
theorem dX0_build_214 : decode cX0_build 214 = .ok (.bipush 19, 2) := by decide +kernel
theorem dX0_build_216 : decode cX0_build 216 = .ok (.iload_n 1, 1) := by decide +kernel
theorem dX0_build_217 : decode cX0_build 217 = .ok (.iadd, 1) := by decide +kernel
theorem dX0_build_218 : decode cX0_build 218 = .ok (.iload_n 2, 1) := by decide +kernel
theorem dX0_build_219 : decode cX0_build 219 = .ok (.ineg, 1) := by decide +kernel
theorem dX0_build_220 : decode cX0_build 220 = .ok (.iastore, 1) := by decide +kernel
theorem dX0_build_221 : decode cX0_build 221 = .ok (.iinc 1 1, 3) := by decide +kernel
theorem dX0_build_224 : decode cX0_build 224 = .ok (.goto (-93), 3) := by decide +kernel
theorem dX0_build_227 : decode cX0_build 227 = .ok (.return_, 1) := by decide +kernel
abbrev cX0_setEdge : ByteArray := prog_1_method_8_code
def yX0_setEdge : MethodName := ⟨RX0, "setEdge", "(IIII)V"⟩
theorem dX0_setEdge_0 : decode cX0_setEdge 0 = .ok (.aload_n 0, 1) := by decide +kernel
theorem dX0_setEdge_1 : decode cX0_setEdge 1 = .ok (.getfield 22, 3) := by decide +kernel
theorem dX0_setEdge_4 : decode cX0_setEdge 4 = .ok (.iload_n 1, 1) := by decide +kernel
theorem dX0_setEdge_5 : decode cX0_setEdge 5 = .ok (.iload_n 2, 1) := by decide +kernel
theorem dX0_setEdge_6 : decode cX0_setEdge 6 = .ok (.iastore, 1) := by decide +kernel
theorem dX0_setEdge_7 : decode cX0_setEdge 7 = .ok (.aload_n 0, 1) := by decide +kernel
theorem dX0_setEdge_8 : decode cX0_setEdge 8 = .ok (.getfield 25, 3) := by decide +kernel
theorem dX0_setEdge_11 : decode cX0_setEdge 11 = .ok (.iload_n 1, 1) := by decide +kernel
theorem dX0_setEdge_12 : decode cX0_setEdge 12 = .ok (.iload_n 3, 1) := by decide +kernel
theorem dX0_setEdge_13 : decode cX0_setEdge 13 = .ok (.iastore, 1) := by decide +kernel
theorem dX0_setEdge_14 : decode cX0_setEdge 14 = .ok (.aload_n 0, 1) := by decide +kernel
theorem dX0_setEdge_15 : decode cX0_setEdge 15 = .ok (.getfield 28, 3) := by decide +kernel
theorem dX0_setEdge_18 : decode cX0_setEdge 18 = .ok (.iload_n 1, 1) := by decide +kernel
theorem dX0_setEdge_19 : decode cX0_setEdge 19 = .ok (.iload 4, 2) := by decide +kernel
theorem dX0_setEdge_21 : decode cX0_setEdge 21 = .ok (.iastore, 1) := by decide +kernel
theorem dX0_setEdge_22 : decode cX0_setEdge 22 = .ok (.aload_n 0, 1) := by decide +kernel
theorem dX0_setEdge_23 : decode cX0_setEdge 23 = .ok (.getfield 31, 3) := by decide +kernel
theorem dX0_setEdge_26 : decode cX0_setEdge 26 = .ok (.iload_n 1, 1) := by decide +kernel
theorem dX0_setEdge_27 : decode cX0_setEdge 27 = .ok (.iconst 0, 1) := by decide +kernel
theorem dX0_setEdge_28 : decode cX0_setEdge 28 = .ok (.iastore, 1) := by decide +kernel
theorem dX0_setEdge_29 : decode cX0_setEdge 29 = .ok (.return_, 1) := by decide +kernel
abbrev cX0_solve : ByteArray := prog_1_method_15_code
def yX0_solve : MethodName := ⟨RX0, "solve", "()V"⟩
theorem dX0_solve_0 : decode cX0_solve 0 = .ok (.aload_n 0, 1) := by decide +kernel
theorem dX0_solve_1 : decode cX0_solve 1 = .ok (.iconst 0, 1) := by decide +kernel
theorem dX0_solve_2 : decode cX0_solve 2 = .ok (.putfield 71, 3) := by decide +kernel
theorem dX0_solve_5 : decode cX0_solve 5 = .ok (.iconst 0, 1) := by decide +kernel
theorem dX0_solve_6 : decode cX0_solve 6 = .ok (.istore_n 1, 1) := by decide +kernel
theorem dX0_solve_7 : decode cX0_solve 7 = .ok (.iload_n 1, 1) := by decide +kernel
theorem dX0_solve_8 : decode cX0_solve 8 = .ok (.bipush 6, 2) := by decide +kernel
theorem dX0_solve_10 : decode cX0_solve 10 = .ok (.if_icmp .ge 27, 3) := by decide +kernel
theorem dX0_solve_13 : decode cX0_solve 13 = .ok (.aload_n 0, 1) := by decide +kernel
theorem dX0_solve_14 : decode cX0_solve 14 = .ok (.dup, 1) := by decide +kernel
theorem dX0_solve_15 : decode cX0_solve 15 = .ok (.getfield 71, 3) := by decide +kernel
theorem dX0_solve_18 : decode cX0_solve 18 = .ok (.aload_n 0, 1) := by decide +kernel
theorem dX0_solve_19 : decode cX0_solve 19 = .ok (.getfield 28, 3) := by decide +kernel
theorem dX0_solve_22 : decode cX0_solve 22 = .ok (.bipush 13, 2) := by decide +kernel
theorem dX0_solve_24 : decode cX0_solve 24 = .ok (.iload_n 1, 1) := by decide +kernel
theorem dX0_solve_25 : decode cX0_solve 25 = .ok (.iadd, 1) := by decide +kernel
theorem dX0_solve_26 : decode cX0_solve 26 = .ok (.iaload, 1) := by decide +kernel
theorem dX0_solve_27 : decode cX0_solve 27 = .ok (.iadd, 1) := by decide +kernel
theorem dX0_solve_28 : decode cX0_solve 28 = .ok (.putfield 71, 3) := by decide +kernel
theorem dX0_solve_31 : decode cX0_solve 31 = .ok (.iinc 1 1, 3) := by decide +kernel
theorem dX0_solve_34 : decode cX0_solve 34 = .ok (.goto (-27), 3) := by decide +kernel
theorem dX0_solve_37 : decode cX0_solve 37 = .ok (.aload_n 0, 1) := by decide +kernel
theorem dX0_solve_38 : decode cX0_solve 38 = .ok (.aload_n 0, 1) := by decide +kernel
theorem dX0_solve_39 : decode cX0_solve 39 = .ok (.bipush 6, 2) := by decide +kernel
theorem dX0_solve_41 : decode cX0_solve 41 = .ok (.bipush 7, 2) := by decide +kernel
theorem dX0_solve_43 : decode cX0_solve 43 = .ok (.iconst (-1), 1) := by decide +kernel
theorem dX0_solve_44 : decode cX0_solve 44 = .ok (.aload_n 0, 1) := by decide +kernel
theorem dX0_solve_45 : decode cX0_solve 45 = .ok (.getfield 71, 3) := by decide +kernel
theorem dX0_solve_48 : decode cX0_solve 48 = .ok (.invokevirtual 74, 3) := by decide +kernel
theorem dX0_solve_51 : decode cX0_solve 51 = .ok (.putfield 78, 3) := by decide +kernel
theorem dX0_solve_54 : decode cX0_solve 54 = .ok (.return_, 1) := by decide +kernel
abbrev cX0_moveAll : ByteArray := prog_1_method_14_code
def yX0_moveAll : MethodName := ⟨RX0, "moveAll", "(IIII)I"⟩
theorem dX0_moveAll_0 : decode cX0_moveAll 0 = .ok (.iconst 0, 1) := by decide +kernel
theorem dX0_moveAll_1 : decode cX0_moveAll 1 = .ok (.istore 5, 2) := by decide +kernel
theorem dX0_moveAll_3 : decode cX0_moveAll 3 = .ok (.iload 4, 2) := by decide +kernel
theorem dX0_moveAll_5 : decode cX0_moveAll 5 = .ok (.ifCond .le 17, 3) := by decide +kernel
theorem dX0_moveAll_8 : decode cX0_moveAll 8 = .ok (.aload_n 0, 1) := by decide +kernel
theorem dX0_moveAll_9 : decode cX0_moveAll 9 = .ok (.iload_n 1, 1) := by decide +kernel
theorem dX0_moveAll_10 : decode cX0_moveAll 10 = .ok (.iload_n 2, 1) := by decide +kernel
theorem dX0_moveAll_11 : decode cX0_moveAll 11 = .ok (.iload_n 3, 1) := by decide +kernel
theorem dX0_moveAll_12 : decode cX0_moveAll 12 = .ok (.invokevirtual 63, 3) := by decide +kernel
theorem dX0_moveAll_15 : decode cX0_moveAll 15 = .ok (.ifCond .eq 7, 3) := by decide +kernel
theorem dX0_moveAll_18 : decode cX0_moveAll 18 = .ok (.iconst 1, 1) := by decide +kernel
theorem dX0_moveAll_19 : decode cX0_moveAll 19 = .ok (.goto 4, 3) := by decide +kernel
theorem dX0_moveAll_22 : decode cX0_moveAll 22 = .ok (.iconst 0, 1) := by decide +kernel
theorem dX0_moveAll_23 : decode cX0_moveAll 23 = .ok (.istore 6, 2) := by decide +kernel
theorem dX0_moveAll_25 : decode cX0_moveAll 25 = .ok (.iconst 0, 1) := by decide +kernel
theorem dX0_moveAll_26 : decode cX0_moveAll 26 = .ok (.istore 7, 2) := by decide +kernel
theorem dX0_moveAll_28 : decode cX0_moveAll 28 = .ok (.iload 7, 2) := by decide +kernel
theorem dX0_moveAll_30 : decode cX0_moveAll 30 = .ok (.sipush 250, 3) := by decide +kernel
theorem dX0_moveAll_33 : decode cX0_moveAll 33 = .ok (.if_icmp .ge 54, 3) := by decide +kernel
theorem dX0_moveAll_36 : decode cX0_moveAll 36 = .ok (.iload 6, 2) := by decide +kernel
theorem dX0_moveAll_38 : decode cX0_moveAll 38 = .ok (.ifCond .eq 49, 3) := by decide +kernel
theorem dX0_moveAll_41 : decode cX0_moveAll 41 = .ok (.iload 5, 2) := by decide +kernel
theorem dX0_moveAll_43 : decode cX0_moveAll 43 = .ok (.aload_n 0, 1) := by decide +kernel
theorem dX0_moveAll_44 : decode cX0_moveAll 44 = .ok (.iload_n 1, 1) := by decide +kernel
theorem dX0_moveAll_45 : decode cX0_moveAll 45 = .ok (.iload_n 2, 1) := by decide +kernel
theorem dX0_moveAll_46 : decode cX0_moveAll 46 = .ok (.iload 4, 2) := by decide +kernel
theorem dX0_moveAll_48 : decode cX0_moveAll 48 = .ok (.iload 5, 2) := by decide +kernel
theorem dX0_moveAll_50 : decode cX0_moveAll 50 = .ok (.isub, 1) := by decide +kernel
theorem dX0_moveAll_51 : decode cX0_moveAll 51 = .ok (.invokevirtual 67, 3) := by decide +kernel
theorem dX0_moveAll_54 : decode cX0_moveAll 54 = .ok (.iadd, 1) := by decide +kernel
theorem dX0_moveAll_55 : decode cX0_moveAll 55 = .ok (.istore 5, 2) := by decide +kernel
theorem dX0_moveAll_57 : decode cX0_moveAll 57 = .ok (.iload 5, 2) := by decide +kernel
theorem dX0_moveAll_59 : decode cX0_moveAll 59 = .ok (.iload 4, 2) := by decide +kernel
theorem dX0_moveAll_61 : decode cX0_moveAll 61 = .ok (.if_icmp .ge 17, 3) := by decide +kernel
theorem dX0_moveAll_64 : decode cX0_moveAll 64 = .ok (.aload_n 0, 1) := by decide +kernel
theorem dX0_moveAll_65 : decode cX0_moveAll 65 = .ok (.iload_n 1, 1) := by decide +kernel
theorem dX0_moveAll_66 : decode cX0_moveAll 66 = .ok (.iload_n 2, 1) := by decide +kernel
theorem dX0_moveAll_67 : decode cX0_moveAll 67 = .ok (.iload_n 3, 1) := by decide +kernel
theorem dX0_moveAll_68 : decode cX0_moveAll 68 = .ok (.invokevirtual 63, 3) := by decide +kernel
theorem dX0_moveAll_71 : decode cX0_moveAll 71 = .ok (.ifCond .eq 7, 3) := by decide +kernel
theorem dX0_moveAll_74 : decode cX0_moveAll 74 = .ok (.iconst 1, 1) := by decide +kernel
theorem dX0_moveAll_75 : decode cX0_moveAll 75 = .ok (.goto 4, 3) := by decide +kernel
theorem dX0_moveAll_78 : decode cX0_moveAll 78 = .ok (.iconst 0, 1) := by decide +kernel
theorem dX0_moveAll_79 : decode cX0_moveAll 79 = .ok (.istore 6, 2) := by decide +kernel
theorem dX0_moveAll_81 : decode cX0_moveAll 81 = .ok (.iinc 7 1, 3) := by decide +kernel
theorem dX0_moveAll_84 : decode cX0_moveAll 84 = .ok (.goto (-56), 3) := by decide +kernel
theorem dX0_moveAll_87 : decode cX0_moveAll 87 = .ok (.iload 5, 2) := by decide +kernel
theorem dX0_moveAll_89 : decode cX0_moveAll 89 = .ok (.ireturn, 1) := by decide +kernel
abbrev cX0_findWay : ByteArray := prog_1_method_10_code
def yX0_findWay : MethodName := ⟨RX0, "findWay", "(III)Z"⟩
theorem dX0_findWay_0 : decode cX0_findWay 0 = .ok (.iconst 0, 1) := by decide +kernel
theorem dX0_findWay_1 : decode cX0_findWay 1 = .ok (.istore 4, 2) := by decide +kernel
theorem dX0_findWay_3 : decode cX0_findWay 3 = .ok (.iload 4, 2) := by decide +kernel
theorem dX0_findWay_5 : decode cX0_findWay 5 = .ok (.bipush 8, 2) := by decide +kernel
theorem dX0_findWay_7 : decode cX0_findWay 7 = .ok (.if_icmp .ge 17, 3) := by decide +kernel
theorem dX0_findWay_10 : decode cX0_findWay 10 = .ok (.aload_n 0, 1) := by decide +kernel
theorem dX0_findWay_11 : decode cX0_findWay 11 = .ok (.getfield 34, 3) := by decide +kernel
theorem dX0_findWay_14 : decode cX0_findWay 14 = .ok (.iload 4, 2) := by decide +kernel
theorem dX0_findWay_16 : decode cX0_findWay 16 = .ok (.iconst (-1), 1) := by decide +kernel
theorem dX0_findWay_17 : decode cX0_findWay 17 = .ok (.iastore, 1) := by decide +kernel
theorem dX0_findWay_18 : decode cX0_findWay 18 = .ok (.iinc 4 1, 3) := by decide +kernel
theorem dX0_findWay_21 : decode cX0_findWay 21 = .ok (.goto (-18), 3) := by decide +kernel
theorem dX0_findWay_24 : decode cX0_findWay 24 = .ok (.aload_n 0, 1) := by decide +kernel
theorem dX0_findWay_25 : decode cX0_findWay 25 = .ok (.getfield 34, 3) := by decide +kernel
theorem dX0_findWay_28 : decode cX0_findWay 28 = .ok (.iload_n 1, 1) := by decide +kernel
theorem dX0_findWay_29 : decode cX0_findWay 29 = .ok (.bipush 50, 2) := by decide +kernel
theorem dX0_findWay_31 : decode cX0_findWay 31 = .ok (.iastore, 1) := by decide +kernel
theorem dX0_findWay_32 : decode cX0_findWay 32 = .ok (.aload_n 0, 1) := by decide +kernel
theorem dX0_findWay_33 : decode cX0_findWay 33 = .ok (.getfield 37, 3) := by decide +kernel
theorem dX0_findWay_36 : decode cX0_findWay 36 = .ok (.iconst 0, 1) := by decide +kernel
theorem dX0_findWay_37 : decode cX0_findWay 37 = .ok (.iload_n 1, 1) := by decide +kernel
theorem dX0_findWay_38 : decode cX0_findWay 38 = .ok (.iastore, 1) := by decide +kernel
theorem dX0_findWay_39 : decode cX0_findWay 39 = .ok (.iconst 1, 1) := by decide +kernel
theorem dX0_findWay_40 : decode cX0_findWay 40 = .ok (.istore 4, 2) := by decide +kernel
theorem dX0_findWay_42 : decode cX0_findWay 42 = .ok (.iconst 0, 1) := by decide +kernel
theorem dX0_findWay_43 : decode cX0_findWay 43 = .ok (.istore 5, 2) := by decide +kernel
theorem dX0_findWay_45 : decode cX0_findWay 45 = .ok (.iload 5, 2) := by decide +kernel
theorem dX0_findWay_47 : decode cX0_findWay 47 = .ok (.iload 4, 2) := by decide +kernel
theorem dX0_findWay_49 : decode cX0_findWay 49 = .ok (.if_icmp .ge 120, 3) := by decide +kernel
theorem dX0_findWay_52 : decode cX0_findWay 52 = .ok (.iload 5, 2) := by decide +kernel
theorem dX0_findWay_54 : decode cX0_findWay 54 = .ok (.bipush 8, 2) := by decide +kernel
theorem dX0_findWay_56 : decode cX0_findWay 56 = .ok (.if_icmp .ge 113, 3) := by decide +kernel
theorem dX0_findWay_59 : decode cX0_findWay 59 = .ok (.aload_n 0, 1) := by decide +kernel
theorem dX0_findWay_60 : decode cX0_findWay 60 = .ok (.getfield 37, 3) := by decide +kernel
theorem dX0_findWay_63 : decode cX0_findWay 63 = .ok (.iload 5, 2) := by decide +kernel
theorem dX0_findWay_65 : decode cX0_findWay 65 = .ok (.iaload, 1) := by decide +kernel
theorem dX0_findWay_66 : decode cX0_findWay 66 = .ok (.istore 6, 2) := by decide +kernel
theorem dX0_findWay_68 : decode cX0_findWay 68 = .ok (.iconst 0, 1) := by decide +kernel
theorem dX0_findWay_69 : decode cX0_findWay 69 = .ok (.istore 7, 2) := by decide +kernel
theorem dX0_findWay_71 : decode cX0_findWay 71 = .ok (.iload 7, 2) := by decide +kernel
theorem dX0_findWay_73 : decode cX0_findWay 73 = .ok (.bipush 25, 2) := by decide +kernel
theorem dX0_findWay_75 : decode cX0_findWay 75 = .ok (.if_icmp .ge 88, 3) := by decide +kernel
theorem dX0_findWay_78 : decode cX0_findWay 78 = .ok (.iload 7, 2) := by decide +kernel
theorem dX0_findWay_80 : decode cX0_findWay 80 = .ok (.iload_n 3, 1) := by decide +kernel
theorem dX0_findWay_81 : decode cX0_findWay 81 = .ok (.if_icmp .ne 7, 3) := by decide +kernel
theorem dX0_findWay_84 : decode cX0_findWay 84 = .ok (.iconst (-1), 1) := by decide +kernel
theorem dX0_findWay_85 : decode cX0_findWay 85 = .ok (.goto 11, 3) := by decide +kernel
theorem dX0_findWay_88 : decode cX0_findWay 88 = .ok (.aload_n 0, 1) := by decide +kernel
theorem dX0_findWay_89 : decode cX0_findWay 89 = .ok (.iload 7, 2) := by decide +kernel
theorem dX0_findWay_91 : decode cX0_findWay 91 = .ok (.iload 6, 2) := by decide +kernel
theorem dX0_findWay_93 : decode cX0_findWay 93 = .ok (.invokevirtual 55, 3) := by decide +kernel
theorem dX0_findWay_96 : decode cX0_findWay 96 = .ok (.istore 8, 2) := by decide +kernel
theorem dX0_findWay_98 : decode cX0_findWay 98 = .ok (.iload 8, 2) := by decide +kernel
theorem dX0_findWay_100 : decode cX0_findWay 100 = .ok (.ifCond .lt 57, 3) := by decide +kernel
theorem dX0_findWay_103 : decode cX0_findWay 103 = .ok (.aload_n 0, 1) := by decide +kernel
theorem dX0_findWay_104 : decode cX0_findWay 104 = .ok (.getfield 34, 3) := by decide +kernel
theorem dX0_findWay_107 : decode cX0_findWay 107 = .ok (.iload 8, 2) := by decide +kernel
theorem dX0_findWay_109 : decode cX0_findWay 109 = .ok (.iaload, 1) := by decide +kernel
theorem dX0_findWay_110 : decode cX0_findWay 110 = .ok (.ifCond .ge 47, 3) := by decide +kernel
theorem dX0_findWay_113 : decode cX0_findWay 113 = .ok (.aload_n 0, 1) := by decide +kernel
theorem dX0_findWay_114 : decode cX0_findWay 114 = .ok (.getfield 34, 3) := by decide +kernel
theorem dX0_findWay_117 : decode cX0_findWay 117 = .ok (.iload 8, 2) := by decide +kernel
theorem dX0_findWay_119 : decode cX0_findWay 119 = .ok (.aload_n 0, 1) := by decide +kernel
theorem dX0_findWay_120 : decode cX0_findWay 120 = .ok (.getfield 22, 3) := by decide +kernel
theorem dX0_findWay_123 : decode cX0_findWay 123 = .ok (.iload 7, 2) := by decide +kernel
theorem dX0_findWay_125 : decode cX0_findWay 125 = .ok (.iaload, 1) := by decide +kernel
theorem dX0_findWay_126 : decode cX0_findWay 126 = .ok (.iload 6, 2) := by decide +kernel
theorem dX0_findWay_128 : decode cX0_findWay 128 = .ok (.if_icmp .ne 10, 3) := by decide +kernel
theorem dX0_findWay_131 : decode cX0_findWay 131 = .ok (.iconst 2, 1) := by decide +kernel
theorem dX0_findWay_132 : decode cX0_findWay 132 = .ok (.iload 7, 2) := by decide +kernel
theorem dX0_findWay_134 : decode cX0_findWay 134 = .ok (.imul, 1) := by decide +kernel
theorem dX0_findWay_135 : decode cX0_findWay 135 = .ok (.goto 9, 3) := by decide +kernel
theorem dX0_findWay_138 : decode cX0_findWay 138 = .ok (.iconst 2, 1) := by decide +kernel
theorem dX0_findWay_139 : decode cX0_findWay 139 = .ok (.iload 7, 2) := by decide +kernel
theorem dX0_findWay_141 : decode cX0_findWay 141 = .ok (.imul, 1) := by decide +kernel
theorem dX0_findWay_142 : decode cX0_findWay 142 = .ok (.iconst 1, 1) := by decide +kernel
theorem dX0_findWay_143 : decode cX0_findWay 143 = .ok (.iadd, 1) := by decide +kernel
theorem dX0_findWay_144 : decode cX0_findWay 144 = .ok (.iastore, 1) := by decide +kernel
theorem dX0_findWay_145 : decode cX0_findWay 145 = .ok (.aload_n 0, 1) := by decide +kernel
theorem dX0_findWay_146 : decode cX0_findWay 146 = .ok (.getfield 37, 3) := by decide +kernel
theorem dX0_findWay_149 : decode cX0_findWay 149 = .ok (.iload 4, 2) := by decide +kernel
theorem dX0_findWay_151 : decode cX0_findWay 151 = .ok (.iload 8, 2) := by decide +kernel
theorem dX0_findWay_153 : decode cX0_findWay 153 = .ok (.iastore, 1) := by decide +kernel
theorem dX0_findWay_154 : decode cX0_findWay 154 = .ok (.iinc 4 1, 3) := by decide +kernel
theorem dX0_findWay_157 : decode cX0_findWay 157 = .ok (.iinc 7 1, 3) := by decide +kernel
theorem dX0_findWay_160 : decode cX0_findWay 160 = .ok (.goto (-89), 3) := by decide +kernel
theorem dX0_findWay_163 : decode cX0_findWay 163 = .ok (.iinc 5 1, 3) := by decide +kernel
theorem dX0_findWay_166 : decode cX0_findWay 166 = .ok (.goto (-121), 3) := by decide +kernel
theorem dX0_findWay_169 : decode cX0_findWay 169 = .ok (.aload_n 0, 1) := by decide +kernel
theorem dX0_findWay_170 : decode cX0_findWay 170 = .ok (.getfield 34, 3) := by decide +kernel
theorem dX0_findWay_173 : decode cX0_findWay 173 = .ok (.iload_n 2, 1) := by decide +kernel
theorem dX0_findWay_174 : decode cX0_findWay 174 = .ok (.iaload, 1) := by decide +kernel
theorem dX0_findWay_175 : decode cX0_findWay 175 = .ok (.ifCond .lt 7, 3) := by decide +kernel
theorem dX0_findWay_178 : decode cX0_findWay 178 = .ok (.iconst 1, 1) := by decide +kernel
theorem dX0_findWay_179 : decode cX0_findWay 179 = .ok (.goto 4, 3) := by decide +kernel
theorem dX0_findWay_182 : decode cX0_findWay 182 = .ok (.iconst 0, 1) := by decide +kernel
theorem dX0_findWay_183 : decode cX0_findWay 183 = .ok (.ireturn, 1) := by decide +kernel
abbrev cX0_across : ByteArray := prog_1_method_11_code
def yX0_across : MethodName := ⟨RX0, "across", "(II)I"⟩
theorem dX0_across_0 : decode cX0_across 0 = .ok (.aload_n 0, 1) := by decide +kernel
theorem dX0_across_1 : decode cX0_across 1 = .ok (.getfield 22, 3) := by decide +kernel
theorem dX0_across_4 : decode cX0_across 4 = .ok (.iload_n 1, 1) := by decide +kernel
theorem dX0_across_5 : decode cX0_across 5 = .ok (.iaload, 1) := by decide +kernel
theorem dX0_across_6 : decode cX0_across 6 = .ok (.iload_n 2, 1) := by decide +kernel
theorem dX0_across_7 : decode cX0_across 7 = .ok (.if_icmp .ne 25, 3) := by decide +kernel
theorem dX0_across_10 : decode cX0_across 10 = .ok (.aload_n 0, 1) := by decide +kernel
theorem dX0_across_11 : decode cX0_across 11 = .ok (.getfield 31, 3) := by decide +kernel
theorem dX0_across_14 : decode cX0_across 14 = .ok (.iload_n 1, 1) := by decide +kernel
theorem dX0_across_15 : decode cX0_across 15 = .ok (.iaload, 1) := by decide +kernel
theorem dX0_across_16 : decode cX0_across 16 = .ok (.aload_n 0, 1) := by decide +kernel
theorem dX0_across_17 : decode cX0_across 17 = .ok (.getfield 28, 3) := by decide +kernel
theorem dX0_across_20 : decode cX0_across 20 = .ok (.iload_n 1, 1) := by decide +kernel
theorem dX0_across_21 : decode cX0_across 21 = .ok (.iaload, 1) := by decide +kernel
theorem dX0_across_22 : decode cX0_across 22 = .ok (.if_icmp .ge 10, 3) := by decide +kernel
theorem dX0_across_25 : decode cX0_across 25 = .ok (.aload_n 0, 1) := by decide +kernel
theorem dX0_across_26 : decode cX0_across 26 = .ok (.getfield 25, 3) := by decide +kernel
theorem dX0_across_29 : decode cX0_across 29 = .ok (.iload_n 1, 1) := by decide +kernel
theorem dX0_across_30 : decode cX0_across 30 = .ok (.iaload, 1) := by decide +kernel
theorem dX0_across_31 : decode cX0_across 31 = .ok (.ireturn, 1) := by decide +kernel
theorem dX0_across_32 : decode cX0_across 32 = .ok (.aload_n 0, 1) := by decide +kernel
theorem dX0_across_33 : decode cX0_across 33 = .ok (.getfield 25, 3) := by decide +kernel
theorem dX0_across_36 : decode cX0_across 36 = .ok (.iload_n 1, 1) := by decide +kernel
theorem dX0_across_37 : decode cX0_across 37 = .ok (.iaload, 1) := by decide +kernel
theorem dX0_across_38 : decode cX0_across 38 = .ok (.iload_n 2, 1) := by decide +kernel
theorem dX0_across_39 : decode cX0_across 39 = .ok (.if_icmp .ne 19, 3) := by decide +kernel
theorem dX0_across_42 : decode cX0_across 42 = .ok (.aload_n 0, 1) := by decide +kernel
theorem dX0_across_43 : decode cX0_across 43 = .ok (.getfield 31, 3) := by decide +kernel
theorem dX0_across_46 : decode cX0_across 46 = .ok (.iload_n 1, 1) := by decide +kernel
theorem dX0_across_47 : decode cX0_across 47 = .ok (.iaload, 1) := by decide +kernel
theorem dX0_across_48 : decode cX0_across 48 = .ok (.ifCond .le 10, 3) := by decide +kernel
theorem dX0_across_51 : decode cX0_across 51 = .ok (.aload_n 0, 1) := by decide +kernel
theorem dX0_across_52 : decode cX0_across 52 = .ok (.getfield 22, 3) := by decide +kernel
theorem dX0_across_55 : decode cX0_across 55 = .ok (.iload_n 1, 1) := by decide +kernel
theorem dX0_across_56 : decode cX0_across 56 = .ok (.iaload, 1) := by decide +kernel
theorem dX0_across_57 : decode cX0_across 57 = .ok (.ireturn, 1) := by decide +kernel
theorem dX0_across_58 : decode cX0_across 58 = .ok (.iconst (-1), 1) := by decide +kernel
theorem dX0_across_59 : decode cX0_across 59 = .ok (.ireturn, 1) := by decide +kernel
end
section
set_option maxRecDepth 100000
abbrev cX0_push : ByteArray := prog_1_method_13_code
def yX0_push : MethodName := ⟨RX0, "push", "(III)I"⟩
theorem dX0_push_0 : decode cX0_push 0 = .ok (.iload_n 3, 1) := by decide +kernel
theorem dX0_push_1 : decode cX0_push 1 = .ok (.istore 4, 2) := by decide +kernel
theorem dX0_push_3 : decode cX0_push 3 = .ok (.iload_n 2, 1) := by decide +kernel
theorem dX0_push_4 : decode cX0_push 4 = .ok (.istore 5, 2) := by decide +kernel
theorem dX0_push_6 : decode cX0_push 6 = .ok (.iconst 0, 1) := by decide +kernel
theorem dX0_push_7 : decode cX0_push 7 = .ok (.istore 6, 2) := by decide +kernel
theorem dX0_push_9 : decode cX0_push 9 = .ok (.iload 6, 2) := by decide +kernel
theorem dX0_push_11 : decode cX0_push 11 = .ok (.bipush 8, 2) := by decide +kernel
theorem dX0_push_13 : decode cX0_push 13 = .ok (.if_icmp .ge 84, 3) := by decide +kernel
theorem dX0_push_16 : decode cX0_push 16 = .ok (.iload 5, 2) := by decide +kernel
theorem dX0_push_18 : decode cX0_push 18 = .ok (.iload_n 1, 1) := by decide +kernel
theorem dX0_push_19 : decode cX0_push 19 = .ok (.if_icmp .eq 78, 3) := by decide +kernel
theorem dX0_push_22 : decode cX0_push 22 = .ok (.aload_n 0, 1) := by decide +kernel
theorem dX0_push_23 : decode cX0_push 23 = .ok (.aload_n 0, 1) := by decide +kernel
theorem dX0_push_24 : decode cX0_push 24 = .ok (.getfield 34, 3) := by decide +kernel
theorem dX0_push_27 : decode cX0_push 27 = .ok (.iload 5, 2) := by decide +kernel
theorem dX0_push_29 : decode cX0_push 29 = .ok (.iaload, 1) := by decide +kernel
theorem dX0_push_30 : decode cX0_push 30 = .ok (.invokevirtual 59, 3) := by decide +kernel
theorem dX0_push_33 : decode cX0_push 33 = .ok (.istore 7, 2) := by decide +kernel
theorem dX0_push_35 : decode cX0_push 35 = .ok (.iload 7, 2) := by decide +kernel
theorem dX0_push_37 : decode cX0_push 37 = .ok (.iload 4, 2) := by decide +kernel
theorem dX0_push_39 : decode cX0_push 39 = .ok (.if_icmp .ge 7, 3) := by decide +kernel
theorem dX0_push_42 : decode cX0_push 42 = .ok (.iload 7, 2) := by decide +kernel
theorem dX0_push_44 : decode cX0_push 44 = .ok (.istore 4, 2) := by decide +kernel
theorem dX0_push_46 : decode cX0_push 46 = .ok (.aload_n 0, 1) := by decide +kernel
theorem dX0_push_47 : decode cX0_push 47 = .ok (.getfield 34, 3) := by decide +kernel
theorem dX0_push_50 : decode cX0_push 50 = .ok (.iload 5, 2) := by decide +kernel
theorem dX0_push_52 : decode cX0_push 52 = .ok (.iaload, 1) := by decide +kernel
theorem dX0_push_53 : decode cX0_push 53 = .ok (.iconst 1, 1) := by decide +kernel
theorem dX0_push_54 : decode cX0_push 54 = .ok (.iand, 1) := by decide +kernel
theorem dX0_push_55 : decode cX0_push 55 = .ok (.ifCond .ne 20, 3) := by decide +kernel
theorem dX0_push_58 : decode cX0_push 58 = .ok (.aload_n 0, 1) := by decide +kernel
theorem dX0_push_59 : decode cX0_push 59 = .ok (.getfield 22, 3) := by decide +kernel
theorem dX0_push_62 : decode cX0_push 62 = .ok (.aload_n 0, 1) := by decide +kernel
theorem dX0_push_63 : decode cX0_push 63 = .ok (.getfield 34, 3) := by decide +kernel
theorem dX0_push_66 : decode cX0_push 66 = .ok (.iload 5, 2) := by decide +kernel
theorem dX0_push_68 : decode cX0_push 68 = .ok (.iaload, 1) := by decide +kernel
theorem dX0_push_69 : decode cX0_push 69 = .ok (.iconst 1, 1) := by decide +kernel
theorem dX0_push_70 : decode cX0_push 70 = .ok (.ishr, 1) := by decide +kernel
theorem dX0_push_71 : decode cX0_push 71 = .ok (.iaload, 1) := by decide +kernel
theorem dX0_push_72 : decode cX0_push 72 = .ok (.goto 17, 3) := by decide +kernel
theorem dX0_push_75 : decode cX0_push 75 = .ok (.aload_n 0, 1) := by decide +kernel
theorem dX0_push_76 : decode cX0_push 76 = .ok (.getfield 25, 3) := by decide +kernel
theorem dX0_push_79 : decode cX0_push 79 = .ok (.aload_n 0, 1) := by decide +kernel
theorem dX0_push_80 : decode cX0_push 80 = .ok (.getfield 34, 3) := by decide +kernel
theorem dX0_push_83 : decode cX0_push 83 = .ok (.iload 5, 2) := by decide +kernel
theorem dX0_push_85 : decode cX0_push 85 = .ok (.iaload, 1) := by decide +kernel
theorem dX0_push_86 : decode cX0_push 86 = .ok (.iconst 1, 1) := by decide +kernel
theorem dX0_push_87 : decode cX0_push 87 = .ok (.ishr, 1) := by decide +kernel
theorem dX0_push_88 : decode cX0_push 88 = .ok (.iaload, 1) := by decide +kernel
theorem dX0_push_89 : decode cX0_push 89 = .ok (.istore 5, 2) := by decide +kernel
theorem dX0_push_91 : decode cX0_push 91 = .ok (.iinc 6 1, 3) := by decide +kernel
theorem dX0_push_94 : decode cX0_push 94 = .ok (.goto (-85), 3) := by decide +kernel
theorem dX0_push_97 : decode cX0_push 97 = .ok (.iload_n 2, 1) := by decide +kernel
theorem dX0_push_98 : decode cX0_push 98 = .ok (.istore 5, 2) := by decide +kernel
theorem dX0_push_100 : decode cX0_push 100 = .ok (.iconst 0, 1) := by decide +kernel
theorem dX0_push_101 : decode cX0_push 101 = .ok (.istore 6, 2) := by decide +kernel
theorem dX0_push_103 : decode cX0_push 103 = .ok (.iload 6, 2) := by decide +kernel
theorem dX0_push_105 : decode cX0_push 105 = .ok (.bipush 8, 2) := by decide +kernel
theorem dX0_push_107 : decode cX0_push 107 = .ok (.if_icmp .ge 81, 3) := by decide +kernel
theorem dX0_push_110 : decode cX0_push 110 = .ok (.iload 5, 2) := by decide +kernel
theorem dX0_push_112 : decode cX0_push 112 = .ok (.iload_n 1, 1) := by decide +kernel
theorem dX0_push_113 : decode cX0_push 113 = .ok (.if_icmp .eq 75, 3) := by decide +kernel
theorem dX0_push_116 : decode cX0_push 116 = .ok (.aload_n 0, 1) := by decide +kernel
theorem dX0_push_117 : decode cX0_push 117 = .ok (.getfield 34, 3) := by decide +kernel
theorem dX0_push_120 : decode cX0_push 120 = .ok (.iload 5, 2) := by decide +kernel
theorem dX0_push_122 : decode cX0_push 122 = .ok (.iaload, 1) := by decide +kernel
theorem dX0_push_123 : decode cX0_push 123 = .ok (.istore 7, 2) := by decide +kernel
theorem dX0_push_125 : decode cX0_push 125 = .ok (.aload_n 0, 1) := by decide +kernel
theorem dX0_push_126 : decode cX0_push 126 = .ok (.getfield 31, 3) := by decide +kernel
theorem dX0_push_129 : decode cX0_push 129 = .ok (.iload 7, 2) := by decide +kernel
theorem dX0_push_131 : decode cX0_push 131 = .ok (.iconst 1, 1) := by decide +kernel
theorem dX0_push_132 : decode cX0_push 132 = .ok (.ishr, 1) := by decide +kernel
theorem dX0_push_133 : decode cX0_push 133 = .ok (.dup2, 1) := by decide +kernel
theorem dX0_push_134 : decode cX0_push 134 = .ok (.iaload, 1) := by decide +kernel
theorem dX0_push_135 : decode cX0_push 135 = .ok (.iload 7, 2) := by decide +kernel
theorem dX0_push_137 : decode cX0_push 137 = .ok (.iconst 1, 1) := by decide +kernel
theorem dX0_push_138 : decode cX0_push 138 = .ok (.iand, 1) := by decide +kernel
theorem dX0_push_139 : decode cX0_push 139 = .ok (.ifCond .ne 8, 3) := by decide +kernel
theorem dX0_push_142 : decode cX0_push 142 = .ok (.iload 4, 2) := by decide +kernel
theorem dX0_push_144 : decode cX0_push 144 = .ok (.goto 6, 3) := by decide +kernel
theorem dX0_push_147 : decode cX0_push 147 = .ok (.iload 4, 2) := by decide +kernel
theorem dX0_push_149 : decode cX0_push 149 = .ok (.ineg, 1) := by decide +kernel
theorem dX0_push_150 : decode cX0_push 150 = .ok (.iadd, 1) := by decide +kernel
theorem dX0_push_151 : decode cX0_push 151 = .ok (.iastore, 1) := by decide +kernel
theorem dX0_push_152 : decode cX0_push 152 = .ok (.iload 7, 2) := by decide +kernel
theorem dX0_push_154 : decode cX0_push 154 = .ok (.iconst 1, 1) := by decide +kernel
theorem dX0_push_155 : decode cX0_push 155 = .ok (.iand, 1) := by decide +kernel
theorem dX0_push_156 : decode cX0_push 156 = .ok (.ifCond .ne 15, 3) := by decide +kernel
theorem dX0_push_159 : decode cX0_push 159 = .ok (.aload_n 0, 1) := by decide +kernel
theorem dX0_push_160 : decode cX0_push 160 = .ok (.getfield 22, 3) := by decide +kernel
theorem dX0_push_163 : decode cX0_push 163 = .ok (.iload 7, 2) := by decide +kernel
theorem dX0_push_165 : decode cX0_push 165 = .ok (.iconst 1, 1) := by decide +kernel
theorem dX0_push_166 : decode cX0_push 166 = .ok (.ishr, 1) := by decide +kernel
theorem dX0_push_167 : decode cX0_push 167 = .ok (.iaload, 1) := by decide +kernel
theorem dX0_push_168 : decode cX0_push 168 = .ok (.goto 12, 3) := by decide +kernel
theorem dX0_push_171 : decode cX0_push 171 = .ok (.aload_n 0, 1) := by decide +kernel
theorem dX0_push_172 : decode cX0_push 172 = .ok (.getfield 25, 3) := by decide +kernel
theorem dX0_push_175 : decode cX0_push 175 = .ok (.iload 7, 2) := by decide +kernel
theorem dX0_push_177 : decode cX0_push 177 = .ok (.iconst 1, 1) := by decide +kernel
theorem dX0_push_178 : decode cX0_push 178 = .ok (.ishr, 1) := by decide +kernel
theorem dX0_push_179 : decode cX0_push 179 = .ok (.iaload, 1) := by decide +kernel
theorem dX0_push_180 : decode cX0_push 180 = .ok (.istore 5, 2) := by decide +kernel
theorem dX0_push_182 : decode cX0_push 182 = .ok (.iinc 6 1, 3) := by decide +kernel
theorem dX0_push_185 : decode cX0_push 185 = .ok (.goto (-82), 3) := by decide +kernel
theorem dX0_push_188 : decode cX0_push 188 = .ok (.iload 4, 2) := by decide +kernel
theorem dX0_push_190 : decode cX0_push 190 = .ok (.ireturn, 1) := by decide +kernel
abbrev cX0_roomOn : ByteArray := prog_1_method_12_code
def yX0_roomOn : MethodName := ⟨RX0, "roomOn", "(I)I"⟩
theorem dX0_roomOn_0 : decode cX0_roomOn 0 = .ok (.iload_n 1, 1) := by decide +kernel
theorem dX0_roomOn_1 : decode cX0_roomOn 1 = .ok (.iconst 1, 1) := by decide +kernel
theorem dX0_roomOn_2 : decode cX0_roomOn 2 = .ok (.ishr, 1) := by decide +kernel
theorem dX0_roomOn_3 : decode cX0_roomOn 3 = .ok (.istore_n 2, 1) := by decide +kernel
theorem dX0_roomOn_4 : decode cX0_roomOn 4 = .ok (.iload_n 1, 1) := by decide +kernel
theorem dX0_roomOn_5 : decode cX0_roomOn 5 = .ok (.iconst 1, 1) := by decide +kernel
theorem dX0_roomOn_6 : decode cX0_roomOn 6 = .ok (.iand, 1) := by decide +kernel
theorem dX0_roomOn_7 : decode cX0_roomOn 7 = .ok (.ifCond .ne 19, 3) := by decide +kernel
theorem dX0_roomOn_10 : decode cX0_roomOn 10 = .ok (.aload_n 0, 1) := by decide +kernel
theorem dX0_roomOn_11 : decode cX0_roomOn 11 = .ok (.getfield 28, 3) := by decide +kernel
theorem dX0_roomOn_14 : decode cX0_roomOn 14 = .ok (.iload_n 2, 1) := by decide +kernel
theorem dX0_roomOn_15 : decode cX0_roomOn 15 = .ok (.iaload, 1) := by decide +kernel
theorem dX0_roomOn_16 : decode cX0_roomOn 16 = .ok (.aload_n 0, 1) := by decide +kernel
theorem dX0_roomOn_17 : decode cX0_roomOn 17 = .ok (.getfield 31, 3) := by decide +kernel
theorem dX0_roomOn_20 : decode cX0_roomOn 20 = .ok (.iload_n 2, 1) := by decide +kernel
theorem dX0_roomOn_21 : decode cX0_roomOn 21 = .ok (.iaload, 1) := by decide +kernel
theorem dX0_roomOn_22 : decode cX0_roomOn 22 = .ok (.isub, 1) := by decide +kernel
theorem dX0_roomOn_23 : decode cX0_roomOn 23 = .ok (.goto 9, 3) := by decide +kernel
theorem dX0_roomOn_26 : decode cX0_roomOn 26 = .ok (.aload_n 0, 1) := by decide +kernel
theorem dX0_roomOn_27 : decode cX0_roomOn 27 = .ok (.getfield 31, 3) := by decide +kernel
theorem dX0_roomOn_30 : decode cX0_roomOn 30 = .ok (.iload_n 2, 1) := by decide +kernel
theorem dX0_roomOn_31 : decode cX0_roomOn 31 = .ok (.iaload, 1) := by decide +kernel
theorem dX0_roomOn_32 : decode cX0_roomOn 32 = .ok (.ireturn, 1) := by decide +kernel
abbrev cX0_lack : ByteArray := prog_1_method_17_code
def yX0_lack : MethodName := ⟨RX0, "lack", "()I"⟩
theorem dX0_lack_0 : decode cX0_lack 0 = .ok (.aload_n 0, 1) := by decide +kernel
theorem dX0_lack_1 : decode cX0_lack 1 = .ok (.invokevirtual 81, 3) := by decide +kernel
theorem dX0_lack_4 : decode cX0_lack 4 = .ok (.aload_n 0, 1) := by decide +kernel
theorem dX0_lack_5 : decode cX0_lack 5 = .ok (.invokevirtual 84, 3) := by decide +kernel
theorem dX0_lack_8 : decode cX0_lack 8 = .ok (.aload_n 0, 1) := by decide +kernel
theorem dX0_lack_9 : decode cX0_lack 9 = .ok (.getfield 71, 3) := by decide +kernel
theorem dX0_lack_12 : decode cX0_lack 12 = .ok (.aload_n 0, 1) := by decide +kernel
theorem dX0_lack_13 : decode cX0_lack 13 = .ok (.getfield 78, 3) := by decide +kernel
theorem dX0_lack_16 : decode cX0_lack 16 = .ok (.isub, 1) := by decide +kernel
theorem dX0_lack_17 : decode cX0_lack 17 = .ok (.ireturn, 1) := by decide +kernel
abbrev cX0_lackingSet : ByteArray := prog_1_method_18_code
def yX0_lackingSet : MethodName := ⟨RX0, "lackingSet", "()I"⟩
theorem dX0_lackingSet_0 : decode cX0_lackingSet 0 = .ok (.aload_n 0, 1) := by decide +kernel
theorem dX0_lackingSet_1 : decode cX0_lackingSet 1 = .ok (.invokevirtual 81, 3) := by decide +kernel
theorem dX0_lackingSet_4 : decode cX0_lackingSet 4 = .ok (.aload_n 0, 1) := by decide +kernel
theorem dX0_lackingSet_5 : decode cX0_lackingSet 5 = .ok (.invokevirtual 84, 3) := by decide +kernel
theorem dX0_lackingSet_8 : decode cX0_lackingSet 8 = .ok (.aload_n 0, 1) := by decide +kernel
theorem dX0_lackingSet_9 : decode cX0_lackingSet 9 = .ok (.bipush 6, 2) := by decide +kernel
theorem dX0_lackingSet_11 : decode cX0_lackingSet 11 = .ok (.bipush 7, 2) := by decide +kernel
theorem dX0_lackingSet_13 : decode cX0_lackingSet 13 = .ok (.iconst (-1), 1) := by decide +kernel
theorem dX0_lackingSet_14 : decode cX0_lackingSet 14 = .ok (.invokevirtual 63, 3) := by decide +kernel
theorem dX0_lackingSet_17 : decode cX0_lackingSet 17 = .ok (.pop, 1) := by decide +kernel
theorem dX0_lackingSet_18 : decode cX0_lackingSet 18 = .ok (.iconst 0, 1) := by decide +kernel
theorem dX0_lackingSet_19 : decode cX0_lackingSet 19 = .ok (.istore_n 1, 1) := by decide +kernel
theorem dX0_lackingSet_20 : decode cX0_lackingSet 20 = .ok (.iconst 0, 1) := by decide +kernel
theorem dX0_lackingSet_21 : decode cX0_lackingSet 21 = .ok (.istore_n 2, 1) := by decide +kernel
theorem dX0_lackingSet_22 : decode cX0_lackingSet 22 = .ok (.iload_n 2, 1) := by decide +kernel
theorem dX0_lackingSet_23 : decode cX0_lackingSet 23 = .ok (.bipush 6, 2) := by decide +kernel
theorem dX0_lackingSet_25 : decode cX0_lackingSet 25 = .ok (.if_icmp .ge 24, 3) := by decide +kernel
theorem dX0_lackingSet_28 : decode cX0_lackingSet 28 = .ok (.aload_n 0, 1) := by decide +kernel
theorem dX0_lackingSet_29 : decode cX0_lackingSet 29 = .ok (.getfield 34, 3) := by decide +kernel
theorem dX0_lackingSet_32 : decode cX0_lackingSet 32 = .ok (.iload_n 2, 1) := by decide +kernel
theorem dX0_lackingSet_33 : decode cX0_lackingSet 33 = .ok (.iaload, 1) := by decide +kernel
theorem dX0_lackingSet_34 : decode cX0_lackingSet 34 = .ok (.ifCond .lt 9, 3) := by decide +kernel
theorem dX0_lackingSet_37 : decode cX0_lackingSet 37 = .ok (.iload_n 1, 1) := by decide +kernel
theorem dX0_lackingSet_38 : decode cX0_lackingSet 38 = .ok (.iconst 1, 1) := by decide +kernel
theorem dX0_lackingSet_39 : decode cX0_lackingSet 39 = .ok (.iload_n 2, 1) := by decide +kernel
theorem dX0_lackingSet_40 : decode cX0_lackingSet 40 = .ok (.ishl, 1) := by decide +kernel
theorem dX0_lackingSet_41 : decode cX0_lackingSet 41 = .ok (.ior, 1) := by decide +kernel
theorem dX0_lackingSet_42 : decode cX0_lackingSet 42 = .ok (.istore_n 1, 1) := by decide +kernel
theorem dX0_lackingSet_43 : decode cX0_lackingSet 43 = .ok (.iinc 2 1, 3) := by decide +kernel
theorem dX0_lackingSet_46 : decode cX0_lackingSet 46 = .ok (.goto (-24), 3) := by decide +kernel
theorem dX0_lackingSet_49 : decode cX0_lackingSet 49 = .ok (.iload_n 1, 1) := by decide +kernel
theorem dX0_lackingSet_50 : decode cX0_lackingSet 50 = .ok (.ireturn, 1) := by decide +kernel
abbrev cX0_least : ByteArray := prog_1_method_19_code
def yX0_least : MethodName := ⟨RX0, "least", "(I)I"⟩
theorem dX0_least_0 : decode cX0_least 0 = .ok (.aload_n 0, 1) := by decide +kernel
theorem dX0_least_1 : decode cX0_least 1 = .ok (.iload_n 1, 1) := by decide +kernel
theorem dX0_least_2 : decode cX0_least 2 = .ok (.invokevirtual 48, 3) := by decide +kernel
theorem dX0_least_5 : decode cX0_least 5 = .ok (.ifCond .eq 6, 3) := by decide +kernel
theorem dX0_least_8 : decode cX0_least 8 = .ok (.bipush (-4), 2) := by decide +kernel
theorem dX0_least_10 : decode cX0_least 10 = .ok (.ireturn, 1) := by decide +kernel
theorem dX0_least_11 : decode cX0_least 11 = .ok (.aload_n 0, 1) := by decide +kernel
theorem dX0_least_12 : decode cX0_least 12 = .ok (.invokevirtual 81, 3) := by decide +kernel
theorem dX0_least_15 : decode cX0_least 15 = .ok (.aload_n 0, 1) := by decide +kernel
theorem dX0_least_16 : decode cX0_least 16 = .ok (.invokevirtual 84, 3) := by decide +kernel
theorem dX0_least_19 : decode cX0_least 19 = .ok (.aload_n 0, 1) := by decide +kernel
theorem dX0_least_20 : decode cX0_least 20 = .ok (.getfield 78, 3) := by decide +kernel
theorem dX0_least_23 : decode cX0_least 23 = .ok (.aload_n 0, 1) := by decide +kernel
theorem dX0_least_24 : decode cX0_least 24 = .ok (.getfield 71, 3) := by decide +kernel
theorem dX0_least_27 : decode cX0_least 27 = .ok (.if_icmp .ge 6, 3) := by decide +kernel
theorem dX0_least_30 : decode cX0_least 30 = .ok (.bipush (-5), 2) := by decide +kernel
theorem dX0_least_32 : decode cX0_least 32 = .ok (.ireturn, 1) := by decide +kernel
theorem dX0_least_33 : decode cX0_least 33 = .ok (.aload_n 0, 1) := by decide +kernel
theorem dX0_least_34 : decode cX0_least 34 = .ok (.aload_n 0, 1) := by decide +kernel
theorem dX0_least_35 : decode cX0_least 35 = .ok (.getfield 22, 3) := by decide +kernel
theorem dX0_least_38 : decode cX0_least 38 = .ok (.iload_n 1, 1) := by decide +kernel
theorem dX0_least_39 : decode cX0_least 39 = .ok (.iaload, 1) := by decide +kernel
theorem dX0_least_40 : decode cX0_least 40 = .ok (.aload_n 0, 1) := by decide +kernel
theorem dX0_least_41 : decode cX0_least 41 = .ok (.getfield 25, 3) := by decide +kernel
theorem dX0_least_44 : decode cX0_least 44 = .ok (.iload_n 1, 1) := by decide +kernel
theorem dX0_least_45 : decode cX0_least 45 = .ok (.iaload, 1) := by decide +kernel
theorem dX0_least_46 : decode cX0_least 46 = .ok (.iload_n 1, 1) := by decide +kernel
theorem dX0_least_47 : decode cX0_least 47 = .ok (.aload_n 0, 1) := by decide +kernel
theorem dX0_least_48 : decode cX0_least 48 = .ok (.getfield 31, 3) := by decide +kernel
theorem dX0_least_51 : decode cX0_least 51 = .ok (.iload_n 1, 1) := by decide +kernel
theorem dX0_least_52 : decode cX0_least 52 = .ok (.iaload, 1) := by decide +kernel
theorem dX0_least_53 : decode cX0_least 53 = .ok (.invokevirtual 74, 3) := by decide +kernel
theorem dX0_least_56 : decode cX0_least 56 = .ok (.istore_n 2, 1) := by decide +kernel
theorem dX0_least_57 : decode cX0_least 57 = .ok (.aload_n 0, 1) := by decide +kernel
theorem dX0_least_58 : decode cX0_least 58 = .ok (.getfield 16, 3) := by decide +kernel
theorem dX0_least_61 : decode cX0_least 61 = .ok (.iload_n 1, 1) := by decide +kernel
theorem dX0_least_62 : decode cX0_least 62 = .ok (.iaload, 1) := by decide +kernel
theorem dX0_least_63 : decode cX0_least 63 = .ok (.aload_n 0, 1) := by decide +kernel
theorem dX0_least_64 : decode cX0_least 64 = .ok (.getfield 31, 3) := by decide +kernel
theorem dX0_least_67 : decode cX0_least 67 = .ok (.iload_n 1, 1) := by decide +kernel
theorem dX0_least_68 : decode cX0_least 68 = .ok (.iaload, 1) := by decide +kernel
theorem dX0_least_69 : decode cX0_least 69 = .ok (.iadd, 1) := by decide +kernel
theorem dX0_least_70 : decode cX0_least 70 = .ok (.iload_n 2, 1) := by decide +kernel
theorem dX0_least_71 : decode cX0_least 71 = .ok (.isub, 1) := by decide +kernel
theorem dX0_least_72 : decode cX0_least 72 = .ok (.ireturn, 1) := by decide +kernel
abbrev cX0_most : ByteArray := prog_1_method_20_code
def yX0_most : MethodName := ⟨RX0, "most", "(I)I"⟩
theorem dX0_most_0 : decode cX0_most 0 = .ok (.aload_n 0, 1) := by decide +kernel
theorem dX0_most_1 : decode cX0_most 1 = .ok (.iload_n 1, 1) := by decide +kernel
theorem dX0_most_2 : decode cX0_most 2 = .ok (.invokevirtual 48, 3) := by decide +kernel
theorem dX0_most_5 : decode cX0_most 5 = .ok (.ifCond .eq 6, 3) := by decide +kernel
theorem dX0_most_8 : decode cX0_most 8 = .ok (.bipush (-4), 2) := by decide +kernel
theorem dX0_most_10 : decode cX0_most 10 = .ok (.ireturn, 1) := by decide +kernel
theorem dX0_most_11 : decode cX0_most 11 = .ok (.aload_n 0, 1) := by decide +kernel
theorem dX0_most_12 : decode cX0_most 12 = .ok (.invokevirtual 81, 3) := by decide +kernel
theorem dX0_most_15 : decode cX0_most 15 = .ok (.aload_n 0, 1) := by decide +kernel
theorem dX0_most_16 : decode cX0_most 16 = .ok (.invokevirtual 84, 3) := by decide +kernel
theorem dX0_most_19 : decode cX0_most 19 = .ok (.aload_n 0, 1) := by decide +kernel
theorem dX0_most_20 : decode cX0_most 20 = .ok (.getfield 78, 3) := by decide +kernel
theorem dX0_most_23 : decode cX0_most 23 = .ok (.aload_n 0, 1) := by decide +kernel
theorem dX0_most_24 : decode cX0_most 24 = .ok (.getfield 71, 3) := by decide +kernel
theorem dX0_most_27 : decode cX0_most 27 = .ok (.if_icmp .ge 6, 3) := by decide +kernel
theorem dX0_most_30 : decode cX0_most 30 = .ok (.bipush (-5), 2) := by decide +kernel
theorem dX0_most_32 : decode cX0_most 32 = .ok (.ireturn, 1) := by decide +kernel
theorem dX0_most_33 : decode cX0_most 33 = .ok (.aload_n 0, 1) := by decide +kernel
theorem dX0_most_34 : decode cX0_most 34 = .ok (.aload_n 0, 1) := by decide +kernel
theorem dX0_most_35 : decode cX0_most 35 = .ok (.getfield 25, 3) := by decide +kernel
theorem dX0_most_38 : decode cX0_most 38 = .ok (.iload_n 1, 1) := by decide +kernel
theorem dX0_most_39 : decode cX0_most 39 = .ok (.iaload, 1) := by decide +kernel
theorem dX0_most_40 : decode cX0_most 40 = .ok (.aload_n 0, 1) := by decide +kernel
theorem dX0_most_41 : decode cX0_most 41 = .ok (.getfield 22, 3) := by decide +kernel
theorem dX0_most_44 : decode cX0_most 44 = .ok (.iload_n 1, 1) := by decide +kernel
theorem dX0_most_45 : decode cX0_most 45 = .ok (.iaload, 1) := by decide +kernel
theorem dX0_most_46 : decode cX0_most 46 = .ok (.iload_n 1, 1) := by decide +kernel
theorem dX0_most_47 : decode cX0_most 47 = .ok (.aload_n 0, 1) := by decide +kernel
theorem dX0_most_48 : decode cX0_most 48 = .ok (.getfield 28, 3) := by decide +kernel
theorem dX0_most_51 : decode cX0_most 51 = .ok (.iload_n 1, 1) := by decide +kernel
theorem dX0_most_52 : decode cX0_most 52 = .ok (.iaload, 1) := by decide +kernel
theorem dX0_most_53 : decode cX0_most 53 = .ok (.aload_n 0, 1) := by decide +kernel
theorem dX0_most_54 : decode cX0_most 54 = .ok (.getfield 31, 3) := by decide +kernel
theorem dX0_most_57 : decode cX0_most 57 = .ok (.iload_n 1, 1) := by decide +kernel
theorem dX0_most_58 : decode cX0_most 58 = .ok (.iaload, 1) := by decide +kernel
theorem dX0_most_59 : decode cX0_most 59 = .ok (.isub, 1) := by decide +kernel
theorem dX0_most_60 : decode cX0_most 60 = .ok (.invokevirtual 74, 3) := by decide +kernel
theorem dX0_most_63 : decode cX0_most 63 = .ok (.istore_n 2, 1) := by decide +kernel
theorem dX0_most_64 : decode cX0_most 64 = .ok (.aload_n 0, 1) := by decide +kernel
theorem dX0_most_65 : decode cX0_most 65 = .ok (.getfield 16, 3) := by decide +kernel
theorem dX0_most_68 : decode cX0_most 68 = .ok (.iload_n 1, 1) := by decide +kernel
theorem dX0_most_69 : decode cX0_most 69 = .ok (.iaload, 1) := by decide +kernel
theorem dX0_most_70 : decode cX0_most 70 = .ok (.aload_n 0, 1) := by decide +kernel
theorem dX0_most_71 : decode cX0_most 71 = .ok (.getfield 31, 3) := by decide +kernel
theorem dX0_most_74 : decode cX0_most 74 = .ok (.iload_n 1, 1) := by decide +kernel
theorem dX0_most_75 : decode cX0_most 75 = .ok (.iaload, 1) := by decide +kernel
theorem dX0_most_76 : decode cX0_most 76 = .ok (.iadd, 1) := by decide +kernel
theorem dX0_most_77 : decode cX0_most 77 = .ok (.iload_n 2, 1) := by decide +kernel
theorem dX0_most_78 : decode cX0_most 78 = .ok (.iadd, 1) := by decide +kernel
theorem dX0_most_79 : decode cX0_most 79 = .ok (.ireturn, 1) := by decide +kernel
abbrev cX0_through : ByteArray := prog_1_method_21_code
def yX0_through : MethodName := ⟨RX0, "through", "(II)I"⟩
theorem dX0_through_0 : decode cX0_through 0 = .ok (.iload_n 1, 1) := by decide +kernel
theorem dX0_through_1 : decode cX0_through 1 = .ok (.invokestatic 44, 3) := by decide +kernel
theorem dX0_through_4 : decode cX0_through 4 = .ok (.ifCond .ne 15, 3) := by decide +kernel
theorem dX0_through_7 : decode cX0_through 7 = .ok (.iload_n 2, 1) := by decide +kernel
theorem dX0_through_8 : decode cX0_through 8 = .ok (.invokestatic 44, 3) := by decide +kernel
theorem dX0_through_11 : decode cX0_through 11 = .ok (.ifCond .ne 8, 3) := by decide +kernel
theorem dX0_through_14 : decode cX0_through 14 = .ok (.iload_n 1, 1) := by decide +kernel
theorem dX0_through_15 : decode cX0_through 15 = .ok (.iload_n 2, 1) := by decide +kernel
theorem dX0_through_16 : decode cX0_through 16 = .ok (.if_icmp .ne 5, 3) := by decide +kernel
theorem dX0_through_19 : decode cX0_through 19 = .ok (.iconst (-1), 1) := by decide +kernel
theorem dX0_through_20 : decode cX0_through 20 = .ok (.ireturn, 1) := by decide +kernel
theorem dX0_through_21 : decode cX0_through 21 = .ok (.aload_n 0, 1) := by decide +kernel
theorem dX0_through_22 : decode cX0_through 22 = .ok (.invokevirtual 81, 3) := by decide +kernel
theorem dX0_through_25 : decode cX0_through 25 = .ok (.aload_n 0, 1) := by decide +kernel
theorem dX0_through_26 : decode cX0_through 26 = .ok (.bipush 12, 2) := by decide +kernel
theorem dX0_through_28 : decode cX0_through 28 = .ok (.iload_n 2, 1) := by decide +kernel
theorem dX0_through_29 : decode cX0_through 29 = .ok (.iload_n 1, 1) := by decide +kernel
theorem dX0_through_30 : decode cX0_through 30 = .ok (.sipush 240, 3) := by decide +kernel
theorem dX0_through_33 : decode cX0_through 33 = .ok (.invokevirtual 51, 3) := by decide +kernel
theorem dX0_through_36 : decode cX0_through 36 = .ok (.aload_n 0, 1) := by decide +kernel
theorem dX0_through_37 : decode cX0_through 37 = .ok (.invokevirtual 84, 3) := by decide +kernel
theorem dX0_through_40 : decode cX0_through 40 = .ok (.aload_n 0, 1) := by decide +kernel
theorem dX0_through_41 : decode cX0_through 41 = .ok (.getfield 78, 3) := by decide +kernel
theorem dX0_through_44 : decode cX0_through 44 = .ok (.aload_n 0, 1) := by decide +kernel
theorem dX0_through_45 : decode cX0_through 45 = .ok (.getfield 71, 3) := by decide +kernel
theorem dX0_through_48 : decode cX0_through 48 = .ok (.if_icmp .ge 6, 3) := by decide +kernel
theorem dX0_through_51 : decode cX0_through 51 = .ok (.bipush (-5), 2) := by decide +kernel
theorem dX0_through_53 : decode cX0_through 53 = .ok (.ireturn, 1) := by decide +kernel
theorem dX0_through_54 : decode cX0_through 54 = .ok (.aload_n 0, 1) := by decide +kernel
theorem dX0_through_55 : decode cX0_through 55 = .ok (.iload_n 1, 1) := by decide +kernel
theorem dX0_through_56 : decode cX0_through 56 = .ok (.iload_n 2, 1) := by decide +kernel
theorem dX0_through_57 : decode cX0_through 57 = .ok (.bipush 12, 2) := by decide +kernel
theorem dX0_through_59 : decode cX0_through 59 = .ok (.sipush 240, 3) := by decide +kernel
theorem dX0_through_62 : decode cX0_through 62 = .ok (.aload_n 0, 1) := by decide +kernel
theorem dX0_through_63 : decode cX0_through 63 = .ok (.getfield 31, 3) := by decide +kernel
theorem dX0_through_66 : decode cX0_through 66 = .ok (.bipush 12, 2) := by decide +kernel
theorem dX0_through_68 : decode cX0_through 68 = .ok (.iaload, 1) := by decide +kernel
theorem dX0_through_69 : decode cX0_through 69 = .ok (.isub, 1) := by decide +kernel
theorem dX0_through_70 : decode cX0_through 70 = .ok (.invokevirtual 74, 3) := by decide +kernel
theorem dX0_through_73 : decode cX0_through 73 = .ok (.istore_n 3, 1) := by decide +kernel
theorem dX0_through_74 : decode cX0_through 74 = .ok (.aload_n 0, 1) := by decide +kernel
theorem dX0_through_75 : decode cX0_through 75 = .ok (.getfield 31, 3) := by decide +kernel
theorem dX0_through_78 : decode cX0_through 78 = .ok (.bipush 12, 2) := by decide +kernel
theorem dX0_through_80 : decode cX0_through 80 = .ok (.iaload, 1) := by decide +kernel
theorem dX0_through_81 : decode cX0_through 81 = .ok (.iload_n 3, 1) := by decide +kernel
theorem dX0_through_82 : decode cX0_through 82 = .ok (.iadd, 1) := by decide +kernel
theorem dX0_through_83 : decode cX0_through 83 = .ok (.ireturn, 1) := by decide +kernel
abbrev cX0_arcs : ByteArray := prog_1_method_22_code
def yX0_arcs : MethodName := ⟨RX0, "arcs", "()I"⟩
theorem dX0_arcs_0 : decode cX0_arcs 0 = .ok (.aload_n 0, 1) := by decide +kernel
theorem dX0_arcs_1 : decode cX0_arcs 1 = .ok (.getfield 40, 3) := by decide +kernel
theorem dX0_arcs_4 : decode cX0_arcs 4 = .ok (.ireturn, 1) := by decide +kernel
theorem q16 : (Jvm.Cond.initialized "CirculationRange") ∈ lw_all := lw_g (lw_at lw_m0 1 rfl) rfl
theorem q19 : (Jvm.Cond.instantiable "CirculationRange" (13 : Nat)) ∈ lw_all := lw_g (lw_at lw_m0 4 rfl) rfl
theorem q21 : (Jvm.Cond.instanceMethod ({ cls := "CirculationRange", name := "<init>", desc := "()V" } : Jvm.MethodName)) ∈ lw_all := lw_g (lw_at lw_m0 6 rfl) rfl
theorem q22 : (Jvm.Cond.code ({ cls := "CirculationRange", name := "<init>", desc := "()V" } : Jvm.MethodName) prog_1_method_1_code (1 : Nat) (Option.none : Option Jvm.ClassFile.FieldType)) ∈ lw_all := lw_g (lw_at lw_m0 7 rfl) rfl
theorem q23 : (Jvm.Cond.methodLink "CirculationRange" (1 : Nat) ({ cls := "java/lang/Object", name := "<init>", desc := "()V" } : Jvm.MethodName)) ∈ lw_all := lw_g (lw_at lw_m0 8 rfl) rfl
theorem q26 : (Jvm.Cond.fieldLink "CirculationRange" (40 : Nat) "CirculationRange" "count" "I") ∈ lw_all := lw_g (lw_at lw_m0 11 rfl) rfl
theorem q27 : (Jvm.Cond.fieldLink "CirculationRange" (7 : Nat) "CirculationRange" "from" "[I") ∈ lw_all := lw_g (lw_at lw_m0 12 rfl) rfl
theorem q28 : (Jvm.Cond.fieldLink "CirculationRange" (13 : Nat) "CirculationRange" "to" "[I") ∈ lw_all := lw_g (lw_at lw_m0 13 rfl) rfl
theorem q29 : (Jvm.Cond.fieldLink "CirculationRange" (16 : Nat) "CirculationRange" "low" "[I") ∈ lw_all := lw_g (lw_at lw_m0 14 rfl) rfl
theorem q30 : (Jvm.Cond.fieldLink "CirculationRange" (19 : Nat) "CirculationRange" "high" "[I") ∈ lw_all := lw_g (lw_at lw_m0 15 rfl) rfl
theorem q31 : (Jvm.Cond.fieldLink "CirculationRange" (22 : Nat) "CirculationRange" "tail" "[I") ∈ lw_all := lw_g (lw_at lw_m0 16 rfl) rfl
theorem q32 : (Jvm.Cond.fieldLink "CirculationRange" (25 : Nat) "CirculationRange" "head" "[I") ∈ lw_all := lw_g (lw_at lw_m0 17 rfl) rfl
theorem q33 : (Jvm.Cond.fieldLink "CirculationRange" (28 : Nat) "CirculationRange" "room" "[I") ∈ lw_all := lw_g (lw_at lw_m0 18 rfl) rfl
theorem q34 : (Jvm.Cond.fieldLink "CirculationRange" (31 : Nat) "CirculationRange" "flow" "[I") ∈ lw_all := lw_g (lw_at lw_m0 19 rfl) rfl
theorem q35 : (Jvm.Cond.fieldLink "CirculationRange" (71 : Nat) "CirculationRange" "need" "I") ∈ lw_all := lw_g (lw_at lw_m0 20 rfl) rfl
theorem q36 : (Jvm.Cond.fieldLink "CirculationRange" (78 : Nat) "CirculationRange" "sent" "I") ∈ lw_all := lw_g (lw_at lw_m0 21 rfl) rfl
theorem q37 : (Jvm.Cond.fieldLink "CirculationRange" (34 : Nat) "CirculationRange" "by" "[I") ∈ lw_all := lw_g (lw_at lw_m0 22 rfl) rfl
theorem q38 : (Jvm.Cond.fieldLink "CirculationRange" (37 : Nat) "CirculationRange" "queue" "[I") ∈ lw_all := lw_g (lw_at lw_m0 23 rfl) rfl
theorem q39 : (Jvm.Cond.lays "CirculationRange" "CirculationRange" "count" "I") ∈ lw_all := lw_g (lw_at lw_m0 24 rfl) rfl
theorem q40 : (Jvm.Cond.soleField "CirculationRange" "count") ∈ lw_all := lw_g (lw_at lw_m0 25 rfl) rfl
theorem q41 : (Jvm.Cond.laysFinal "CirculationRange" "CirculationRange" "from" "[I") ∈ lw_all := lw_g (lw_at lw_m0 26 rfl) rfl
theorem q42 : (Jvm.Cond.soleField "CirculationRange" "from") ∈ lw_all := lw_g (lw_at lw_m0 27 rfl) rfl
theorem q43 : (Jvm.Cond.laysFinal "CirculationRange" "CirculationRange" "to" "[I") ∈ lw_all := lw_g (lw_at lw_m0 28 rfl) rfl
theorem q44 : (Jvm.Cond.soleField "CirculationRange" "to") ∈ lw_all := lw_g (lw_at lw_m0 29 rfl) rfl
theorem q45 : (Jvm.Cond.laysFinal "CirculationRange" "CirculationRange" "low" "[I") ∈ lw_all := lw_g (lw_at lw_m0 30 rfl) rfl
theorem q46 : (Jvm.Cond.soleField "CirculationRange" "low") ∈ lw_all := lw_g (lw_at lw_m0 31 rfl) rfl
theorem q47 : (Jvm.Cond.laysFinal "CirculationRange" "CirculationRange" "high" "[I") ∈ lw_all := lw_g (lw_at lw_m0 32 rfl) rfl
theorem q48 : (Jvm.Cond.soleField "CirculationRange" "high") ∈ lw_all := lw_g (lw_at lw_m0 33 rfl) rfl
theorem q49 : (Jvm.Cond.laysFinal "CirculationRange" "CirculationRange" "tail" "[I") ∈ lw_all := lw_g (lw_at lw_m0 34 rfl) rfl
theorem q50 : (Jvm.Cond.soleField "CirculationRange" "tail") ∈ lw_all := lw_g (lw_at lw_m0 35 rfl) rfl
theorem q51 : (Jvm.Cond.laysFinal "CirculationRange" "CirculationRange" "head" "[I") ∈ lw_all := lw_g (lw_at lw_m0 36 rfl) rfl
theorem q52 : (Jvm.Cond.soleField "CirculationRange" "head") ∈ lw_all := lw_g (lw_at lw_m0 37 rfl) rfl
theorem q53 : (Jvm.Cond.laysFinal "CirculationRange" "CirculationRange" "room" "[I") ∈ lw_all := lw_g (lw_at lw_m0 38 rfl) rfl
theorem q54 : (Jvm.Cond.soleField "CirculationRange" "room") ∈ lw_all := lw_g (lw_at lw_m0 39 rfl) rfl
theorem q55 : (Jvm.Cond.laysFinal "CirculationRange" "CirculationRange" "flow" "[I") ∈ lw_all := lw_g (lw_at lw_m0 40 rfl) rfl
theorem q56 : (Jvm.Cond.soleField "CirculationRange" "flow") ∈ lw_all := lw_g (lw_at lw_m0 41 rfl) rfl
theorem q57 : (Jvm.Cond.lays "CirculationRange" "CirculationRange" "need" "I") ∈ lw_all := lw_g (lw_at lw_m0 42 rfl) rfl
theorem q58 : (Jvm.Cond.soleField "CirculationRange" "need") ∈ lw_all := lw_g (lw_at lw_m0 43 rfl) rfl
theorem q59 : (Jvm.Cond.lays "CirculationRange" "CirculationRange" "sent" "I") ∈ lw_all := lw_g (lw_at lw_m0 44 rfl) rfl
theorem q60 : (Jvm.Cond.soleField "CirculationRange" "sent") ∈ lw_all := lw_g (lw_at lw_m0 45 rfl) rfl
theorem q61 : (Jvm.Cond.laysFinal "CirculationRange" "CirculationRange" "by" "[I") ∈ lw_all := lw_g (lw_at lw_m0 46 rfl) rfl
theorem q62 : (Jvm.Cond.soleField "CirculationRange" "by") ∈ lw_all := lw_g (lw_at lw_m0 47 rfl) rfl
theorem q63 : (Jvm.Cond.laysFinal "CirculationRange" "CirculationRange" "queue" "[I") ∈ lw_all := lw_g (lw_at lw_m0 48 rfl) rfl
theorem q64 : (Jvm.Cond.soleField "CirculationRange" "queue") ∈ lw_all := lw_g (lw_at lw_m0 49 rfl) rfl
theorem q65 : (Jvm.Cond.superclass "CirculationRange" "java/lang/Object") ∈ lw_all := lw_g (lw_at lw_m0 50 rfl) rfl
theorem q68 : (Jvm.Cond.instanceMethod ({ cls := "CirculationRange", name := "arc", desc := "(III)I" } : Jvm.MethodName)) ∈ lw_all := lw_g (lw_at lw_m0 53 rfl) rfl
theorem q69 : (Jvm.Cond.selects "CirculationRange" ({ cls := "CirculationRange", name := "arc", desc := "(III)I" } : Jvm.MethodName) ({ cls := "CirculationRange", name := "arc", desc := "(III)I" } : Jvm.MethodName)) ∈ lw_all := lw_g (lw_at lw_m0 54 rfl) rfl
theorem q70 : (Jvm.Cond.code ({ cls := "CirculationRange", name := "arc", desc := "(III)I" } : Jvm.MethodName) prog_1_method_4_code (5 : Nat) (Option.some Jvm.ClassFile.FieldType.int)) ∈ lw_all := lw_g (lw_at lw_m0 55 rfl) rfl
theorem q71 : (Jvm.Cond.methodLink "CirculationRange" (44 : Nat) ({ cls := "CirculationRange", name := "badVertex", desc := "(I)Z" } : Jvm.MethodName)) ∈ lw_all := lw_g (lw_at lw_m0 56 rfl) rfl
theorem q72 : (Jvm.Cond.static ({ cls := "CirculationRange", name := "badVertex", desc := "(I)Z" } : Jvm.MethodName)) ∈ lw_all := lw_g (lw_at lw_m0 57 rfl) rfl
theorem q73 : (Jvm.Cond.code ({ cls := "CirculationRange", name := "badVertex", desc := "(I)Z" } : Jvm.MethodName) prog_1_method_2_code (1 : Nat) (Option.some Jvm.ClassFile.FieldType.boolean)) ∈ lw_all := lw_g (lw_at lw_m0 58 rfl) rfl
theorem q75 : (Jvm.Cond.instanceMethod ({ cls := "CirculationRange", name := "bounds", desc := "(III)I" } : Jvm.MethodName)) ∈ lw_all := lw_g (lw_at lw_m0 60 rfl) rfl
theorem q76 : (Jvm.Cond.selects "CirculationRange" ({ cls := "CirculationRange", name := "bounds", desc := "(III)I" } : Jvm.MethodName) ({ cls := "CirculationRange", name := "bounds", desc := "(III)I" } : Jvm.MethodName)) ∈ lw_all := lw_g (lw_at lw_m0 61 rfl) rfl
theorem q77 : (Jvm.Cond.code ({ cls := "CirculationRange", name := "bounds", desc := "(III)I" } : Jvm.MethodName) prog_1_method_5_code (4 : Nat) (Option.some Jvm.ClassFile.FieldType.int)) ∈ lw_all := lw_g (lw_at lw_m0 62 rfl) rfl
theorem q78 : (Jvm.Cond.methodLink "CirculationRange" (48 : Nat) ({ cls := "CirculationRange", name := "noArc", desc := "(I)Z" } : Jvm.MethodName)) ∈ lw_all := lw_g (lw_at lw_m0 63 rfl) rfl
theorem q79 : (Jvm.Cond.privateMethod ({ cls := "CirculationRange", name := "noArc", desc := "(I)Z" } : Jvm.MethodName)) ∈ lw_tbl := lw_at lw_m0 64 rfl
theorem q80 : (Jvm.Cond.instanceMethod ({ cls := "CirculationRange", name := "noArc", desc := "(I)Z" } : Jvm.MethodName)) ∈ lw_all := lw_g (lw_at lw_m0 65 rfl) rfl
theorem q81 : (Jvm.Cond.code ({ cls := "CirculationRange", name := "noArc", desc := "(I)Z" } : Jvm.MethodName) prog_1_method_3_code (2 : Nat) (Option.some Jvm.ClassFile.FieldType.boolean)) ∈ lw_all := lw_g (lw_at lw_m0 66 rfl) rfl
theorem q83 : (Jvm.Cond.instanceMethod ({ cls := "CirculationRange", name := "reverse", desc := "(I)I" } : Jvm.MethodName)) ∈ lw_all := lw_g (lw_at lw_m0 68 rfl) rfl
theorem q84 : (Jvm.Cond.selects "CirculationRange" ({ cls := "CirculationRange", name := "reverse", desc := "(I)I" } : Jvm.MethodName) ({ cls := "CirculationRange", name := "reverse", desc := "(I)I" } : Jvm.MethodName)) ∈ lw_all := lw_g (lw_at lw_m0 69 rfl) rfl
theorem q85 : (Jvm.Cond.code ({ cls := "CirculationRange", name := "reverse", desc := "(I)I" } : Jvm.MethodName) prog_1_method_6_code (3 : Nat) (Option.some Jvm.ClassFile.FieldType.int)) ∈ lw_all := lw_g (lw_at lw_m0 70 rfl) rfl
theorem q87 : (Jvm.Cond.instanceMethod ({ cls := "CirculationRange", name := "dropLast", desc := "()I" } : Jvm.MethodName)) ∈ lw_all := lw_g (lw_at lw_m0 72 rfl) rfl
theorem q88 : (Jvm.Cond.selects "CirculationRange" ({ cls := "CirculationRange", name := "dropLast", desc := "()I" } : Jvm.MethodName) ({ cls := "CirculationRange", name := "dropLast", desc := "()I" } : Jvm.MethodName)) ∈ lw_all := lw_g (lw_at lw_m0 73 rfl) rfl
theorem q89 : (Jvm.Cond.code ({ cls := "CirculationRange", name := "dropLast", desc := "()I" } : Jvm.MethodName) prog_1_method_7_code (1 : Nat) (Option.some Jvm.ClassFile.FieldType.int)) ∈ lw_all := lw_g (lw_at lw_m0 74 rfl) rfl
theorem q91 : (Jvm.Cond.instanceMethod ({ cls := "CirculationRange", name := "possible", desc := "()Z" } : Jvm.MethodName)) ∈ lw_all := lw_g (lw_at lw_m0 76 rfl) rfl
theorem q92 : (Jvm.Cond.selects "CirculationRange" ({ cls := "CirculationRange", name := "possible", desc := "()Z" } : Jvm.MethodName) ({ cls := "CirculationRange", name := "possible", desc := "()Z" } : Jvm.MethodName)) ∈ lw_all := lw_g (lw_at lw_m0 77 rfl) rfl
theorem q93 : (Jvm.Cond.code ({ cls := "CirculationRange", name := "possible", desc := "()Z" } : Jvm.MethodName) prog_1_method_16_code (1 : Nat) (Option.some Jvm.ClassFile.FieldType.boolean)) ∈ lw_all := lw_g (lw_at lw_m0 78 rfl) rfl
theorem q94 : (Jvm.Cond.methodLink "CirculationRange" (81 : Nat) ({ cls := "CirculationRange", name := "build", desc := "()V" } : Jvm.MethodName)) ∈ lw_all := lw_g (lw_at lw_m0 79 rfl) rfl
theorem q95 : (Jvm.Cond.privateMethod ({ cls := "CirculationRange", name := "build", desc := "()V" } : Jvm.MethodName)) ∈ lw_tbl := lw_at lw_m0 80 rfl
theorem q96 : (Jvm.Cond.instanceMethod ({ cls := "CirculationRange", name := "build", desc := "()V" } : Jvm.MethodName)) ∈ lw_all := lw_g (lw_at lw_m0 81 rfl) rfl
theorem q97 : (Jvm.Cond.code ({ cls := "CirculationRange", name := "build", desc := "()V" } : Jvm.MethodName) prog_1_method_9_code (4 : Nat) (Option.none : Option Jvm.ClassFile.FieldType)) ∈ lw_all := lw_g (lw_at lw_m0 82 rfl) rfl
theorem q98 : (Jvm.Cond.methodLink "CirculationRange" (51 : Nat) ({ cls := "CirculationRange", name := "setEdge", desc := "(IIII)V" } : Jvm.MethodName)) ∈ lw_all := lw_g (lw_at lw_m0 83 rfl) rfl
theorem q99 : (Jvm.Cond.privateMethod ({ cls := "CirculationRange", name := "setEdge", desc := "(IIII)V" } : Jvm.MethodName)) ∈ lw_tbl := lw_at lw_m0 84 rfl
theorem q100 : (Jvm.Cond.instanceMethod ({ cls := "CirculationRange", name := "setEdge", desc := "(IIII)V" } : Jvm.MethodName)) ∈ lw_all := lw_g (lw_at lw_m0 85 rfl) rfl
theorem q101 : (Jvm.Cond.code ({ cls := "CirculationRange", name := "setEdge", desc := "(IIII)V" } : Jvm.MethodName) prog_1_method_8_code (5 : Nat) (Option.none : Option Jvm.ClassFile.FieldType)) ∈ lw_all := lw_g (lw_at lw_m0 86 rfl) rfl
theorem q102 : (Jvm.Cond.methodLink "CirculationRange" (84 : Nat) ({ cls := "CirculationRange", name := "solve", desc := "()V" } : Jvm.MethodName)) ∈ lw_all := lw_g (lw_at lw_m0 87 rfl) rfl
theorem q103 : (Jvm.Cond.privateMethod ({ cls := "CirculationRange", name := "solve", desc := "()V" } : Jvm.MethodName)) ∈ lw_tbl := lw_at lw_m0 88 rfl
theorem q104 : (Jvm.Cond.instanceMethod ({ cls := "CirculationRange", name := "solve", desc := "()V" } : Jvm.MethodName)) ∈ lw_all := lw_g (lw_at lw_m0 89 rfl) rfl
theorem q105 : (Jvm.Cond.code ({ cls := "CirculationRange", name := "solve", desc := "()V" } : Jvm.MethodName) prog_1_method_15_code (2 : Nat) (Option.none : Option Jvm.ClassFile.FieldType)) ∈ lw_all := lw_g (lw_at lw_m0 90 rfl) rfl
theorem q106 : (Jvm.Cond.methodLink "CirculationRange" (74 : Nat) ({ cls := "CirculationRange", name := "moveAll", desc := "(IIII)I" } : Jvm.MethodName)) ∈ lw_all := lw_g (lw_at lw_m0 91 rfl) rfl
theorem q107 : (Jvm.Cond.privateMethod ({ cls := "CirculationRange", name := "moveAll", desc := "(IIII)I" } : Jvm.MethodName)) ∈ lw_tbl := lw_at lw_m0 92 rfl
theorem q108 : (Jvm.Cond.instanceMethod ({ cls := "CirculationRange", name := "moveAll", desc := "(IIII)I" } : Jvm.MethodName)) ∈ lw_all := lw_g (lw_at lw_m0 93 rfl) rfl
theorem q109 : (Jvm.Cond.code ({ cls := "CirculationRange", name := "moveAll", desc := "(IIII)I" } : Jvm.MethodName) prog_1_method_14_code (8 : Nat) (Option.some Jvm.ClassFile.FieldType.int)) ∈ lw_all := lw_g (lw_at lw_m0 94 rfl) rfl
theorem q110 : (Jvm.Cond.methodLink "CirculationRange" (63 : Nat) ({ cls := "CirculationRange", name := "findWay", desc := "(III)Z" } : Jvm.MethodName)) ∈ lw_all := lw_g (lw_at lw_m0 95 rfl) rfl
theorem q111 : (Jvm.Cond.privateMethod ({ cls := "CirculationRange", name := "findWay", desc := "(III)Z" } : Jvm.MethodName)) ∈ lw_tbl := lw_at lw_m0 96 rfl
theorem q112 : (Jvm.Cond.instanceMethod ({ cls := "CirculationRange", name := "findWay", desc := "(III)Z" } : Jvm.MethodName)) ∈ lw_all := lw_g (lw_at lw_m0 97 rfl) rfl
theorem q113 : (Jvm.Cond.code ({ cls := "CirculationRange", name := "findWay", desc := "(III)Z" } : Jvm.MethodName) prog_1_method_10_code (9 : Nat) (Option.some Jvm.ClassFile.FieldType.boolean)) ∈ lw_all := lw_g (lw_at lw_m0 98 rfl) rfl
theorem q114 : (Jvm.Cond.methodLink "CirculationRange" (55 : Nat) ({ cls := "CirculationRange", name := "across", desc := "(II)I" } : Jvm.MethodName)) ∈ lw_all := lw_g (lw_at lw_m0 99 rfl) rfl
theorem q115 : (Jvm.Cond.privateMethod ({ cls := "CirculationRange", name := "across", desc := "(II)I" } : Jvm.MethodName)) ∈ lw_tbl := lw_at lw_m0 100 rfl
theorem q116 : (Jvm.Cond.instanceMethod ({ cls := "CirculationRange", name := "across", desc := "(II)I" } : Jvm.MethodName)) ∈ lw_all := lw_g (lw_at lw_m0 101 rfl) rfl
theorem q117 : (Jvm.Cond.code ({ cls := "CirculationRange", name := "across", desc := "(II)I" } : Jvm.MethodName) prog_1_method_11_code (3 : Nat) (Option.some Jvm.ClassFile.FieldType.int)) ∈ lw_all := lw_g (lw_at lw_m0 102 rfl) rfl
theorem q118 : (Jvm.Cond.methodLink "CirculationRange" (67 : Nat) ({ cls := "CirculationRange", name := "push", desc := "(III)I" } : Jvm.MethodName)) ∈ lw_all := lw_g (lw_at lw_m0 103 rfl) rfl
theorem q119 : (Jvm.Cond.privateMethod ({ cls := "CirculationRange", name := "push", desc := "(III)I" } : Jvm.MethodName)) ∈ lw_tbl := lw_at lw_m0 104 rfl
theorem q120 : (Jvm.Cond.instanceMethod ({ cls := "CirculationRange", name := "push", desc := "(III)I" } : Jvm.MethodName)) ∈ lw_all := lw_g (lw_at lw_m0 105 rfl) rfl
theorem q121 : (Jvm.Cond.code ({ cls := "CirculationRange", name := "push", desc := "(III)I" } : Jvm.MethodName) prog_1_method_13_code (8 : Nat) (Option.some Jvm.ClassFile.FieldType.int)) ∈ lw_all := lw_g (lw_at lw_m0 106 rfl) rfl
theorem q122 : (Jvm.Cond.methodLink "CirculationRange" (59 : Nat) ({ cls := "CirculationRange", name := "roomOn", desc := "(I)I" } : Jvm.MethodName)) ∈ lw_all := lw_g (lw_at lw_m0 107 rfl) rfl
theorem q123 : (Jvm.Cond.privateMethod ({ cls := "CirculationRange", name := "roomOn", desc := "(I)I" } : Jvm.MethodName)) ∈ lw_tbl := lw_at lw_m0 108 rfl
theorem q124 : (Jvm.Cond.instanceMethod ({ cls := "CirculationRange", name := "roomOn", desc := "(I)I" } : Jvm.MethodName)) ∈ lw_all := lw_g (lw_at lw_m0 109 rfl) rfl
theorem q125 : (Jvm.Cond.code ({ cls := "CirculationRange", name := "roomOn", desc := "(I)I" } : Jvm.MethodName) prog_1_method_12_code (3 : Nat) (Option.some Jvm.ClassFile.FieldType.int)) ∈ lw_all := lw_g (lw_at lw_m0 110 rfl) rfl
theorem q127 : (Jvm.Cond.instanceMethod ({ cls := "CirculationRange", name := "lack", desc := "()I" } : Jvm.MethodName)) ∈ lw_all := lw_g (lw_at lw_m0 112 rfl) rfl
theorem q128 : (Jvm.Cond.selects "CirculationRange" ({ cls := "CirculationRange", name := "lack", desc := "()I" } : Jvm.MethodName) ({ cls := "CirculationRange", name := "lack", desc := "()I" } : Jvm.MethodName)) ∈ lw_all := lw_g (lw_at lw_m0 113 rfl) rfl
theorem q129 : (Jvm.Cond.code ({ cls := "CirculationRange", name := "lack", desc := "()I" } : Jvm.MethodName) prog_1_method_17_code (1 : Nat) (Option.some Jvm.ClassFile.FieldType.int)) ∈ lw_all := lw_g (lw_at lw_m0 114 rfl) rfl
theorem q131 : (Jvm.Cond.instanceMethod ({ cls := "CirculationRange", name := "lackingSet", desc := "()I" } : Jvm.MethodName)) ∈ lw_all := lw_g (lw_at lw_m0 116 rfl) rfl
theorem q132 : (Jvm.Cond.selects "CirculationRange" ({ cls := "CirculationRange", name := "lackingSet", desc := "()I" } : Jvm.MethodName) ({ cls := "CirculationRange", name := "lackingSet", desc := "()I" } : Jvm.MethodName)) ∈ lw_all := lw_g (lw_at lw_m0 117 rfl) rfl
theorem q133 : (Jvm.Cond.code ({ cls := "CirculationRange", name := "lackingSet", desc := "()I" } : Jvm.MethodName) prog_1_method_18_code (3 : Nat) (Option.some Jvm.ClassFile.FieldType.int)) ∈ lw_all := lw_g (lw_at lw_m0 118 rfl) rfl
theorem q135 : (Jvm.Cond.instanceMethod ({ cls := "CirculationRange", name := "least", desc := "(I)I" } : Jvm.MethodName)) ∈ lw_all := lw_g (lw_at lw_m0 120 rfl) rfl
theorem q136 : (Jvm.Cond.selects "CirculationRange" ({ cls := "CirculationRange", name := "least", desc := "(I)I" } : Jvm.MethodName) ({ cls := "CirculationRange", name := "least", desc := "(I)I" } : Jvm.MethodName)) ∈ lw_all := lw_g (lw_at lw_m0 121 rfl) rfl
theorem q137 : (Jvm.Cond.code ({ cls := "CirculationRange", name := "least", desc := "(I)I" } : Jvm.MethodName) prog_1_method_19_code (3 : Nat) (Option.some Jvm.ClassFile.FieldType.int)) ∈ lw_all := lw_g (lw_at lw_m0 122 rfl) rfl
theorem q139 : (Jvm.Cond.instanceMethod ({ cls := "CirculationRange", name := "most", desc := "(I)I" } : Jvm.MethodName)) ∈ lw_all := lw_g (lw_at lw_m0 124 rfl) rfl
theorem q140 : (Jvm.Cond.selects "CirculationRange" ({ cls := "CirculationRange", name := "most", desc := "(I)I" } : Jvm.MethodName) ({ cls := "CirculationRange", name := "most", desc := "(I)I" } : Jvm.MethodName)) ∈ lw_all := lw_g (lw_at lw_m0 125 rfl) rfl
theorem q141 : (Jvm.Cond.code ({ cls := "CirculationRange", name := "most", desc := "(I)I" } : Jvm.MethodName) prog_1_method_20_code (3 : Nat) (Option.some Jvm.ClassFile.FieldType.int)) ∈ lw_all := lw_g (lw_at lw_m0 126 rfl) rfl
theorem q143 : (Jvm.Cond.instanceMethod ({ cls := "CirculationRange", name := "through", desc := "(II)I" } : Jvm.MethodName)) ∈ lw_all := lw_g (lw_at lw_m0 128 rfl) rfl
theorem q144 : (Jvm.Cond.selects "CirculationRange" ({ cls := "CirculationRange", name := "through", desc := "(II)I" } : Jvm.MethodName) ({ cls := "CirculationRange", name := "through", desc := "(II)I" } : Jvm.MethodName)) ∈ lw_all := lw_g (lw_at lw_m0 129 rfl) rfl
theorem q145 : (Jvm.Cond.code ({ cls := "CirculationRange", name := "through", desc := "(II)I" } : Jvm.MethodName) prog_1_method_21_code (4 : Nat) (Option.some Jvm.ClassFile.FieldType.int)) ∈ lw_all := lw_g (lw_at lw_m0 130 rfl) rfl
theorem q147 : (Jvm.Cond.instanceMethod ({ cls := "CirculationRange", name := "arcs", desc := "()I" } : Jvm.MethodName)) ∈ lw_all := lw_g (lw_at lw_m0 132 rfl) rfl
theorem q148 : (Jvm.Cond.selects "CirculationRange" ({ cls := "CirculationRange", name := "arcs", desc := "()I" } : Jvm.MethodName) ({ cls := "CirculationRange", name := "arcs", desc := "()I" } : Jvm.MethodName)) ∈ lw_all := lw_g (lw_at lw_m0 133 rfl) rfl
theorem q149 : (Jvm.Cond.code ({ cls := "CirculationRange", name := "arcs", desc := "()I" } : Jvm.MethodName) prog_1_method_22_code (1 : Nat) (Option.some Jvm.ClassFile.FieldType.int)) ∈ lw_all := lw_g (lw_at lw_m0 134 rfl) rfl
theorem in_X0 : ∀ w ∈ wsX00, w ∈ lw_all := lw_in wsX00 [39, 41, 43, 45, 47, 49, 51, 53, 55, 57, 59, 61, 63] (by decide +kernel) (by decide +kernel)
end
section
/-! CirculationRangeModel -/
set_option maxRecDepth 100000
def RX1 : String := "CirculationRangeModel"
def TX1 : u_T := fun k => match k with
  | 0 => ("CirculationRangeModel", "tail", "[I", true)
  | 1 => ("CirculationRangeModel", "head", "[I", true)
  | 2 => ("CirculationRangeModel", "low", "[I", true)
  | 3 => ("CirculationRangeModel", "high", "[I", true)
  | _ => ("CirculationRangeModel", "count", "I", false)
def tyX1 : Nat → FieldType := fun k => match k with
  | 0 => .array .int
  | 1 => .array .int
  | 2 => .array .int
  | 3 => .array .int
  | _ => .int
abbrev wsX10 : List Cond := u_ws RX1 TX1 5
theorem nmX1 : ∀ a, a < 5 → ∀ b, b < 5 → a ≠ b → (TX1 a).2.1 ≠ (TX1 b).2.1 := by decide +kernel
theorem tyX1_ok : ∀ k, k < 5 → parseFieldDescriptor (TX1 k).2.2.1 = some (tyX1 k) := by decide +kernel
abbrev cX1_init : ByteArray := prog_3_method_1_code
def yX1_init : MethodName := ⟨RX1, "<init>", "()V"⟩
theorem dX1_init_0 : decode cX1_init 0 = .ok (.aload_n 0, 1) := by decide +kernel
theorem dX1_init_1 : decode cX1_init 1 = .ok (.invokespecial 1, 3) := by decide +kernel
theorem dX1_init_4 : decode cX1_init 4 = .ok (.aload_n 0, 1) := by decide +kernel
theorem dX1_init_5 : decode cX1_init 5 = .ok (.bipush 13, 2) := by decide +kernel
theorem dX1_init_7 : decode cX1_init 7 = .ok (.newarray .int, 2) := by decide +kernel
theorem dX1_init_9 : decode cX1_init 9 = .ok (.putfield 7, 3) := by decide +kernel
theorem dX1_init_12 : decode cX1_init 12 = .ok (.aload_n 0, 1) := by decide +kernel
theorem dX1_init_13 : decode cX1_init 13 = .ok (.bipush 13, 2) := by decide +kernel
theorem dX1_init_15 : decode cX1_init 15 = .ok (.newarray .int, 2) := by decide +kernel
theorem dX1_init_17 : decode cX1_init 17 = .ok (.putfield 13, 3) := by decide +kernel
theorem dX1_init_20 : decode cX1_init 20 = .ok (.aload_n 0, 1) := by decide +kernel
theorem dX1_init_21 : decode cX1_init 21 = .ok (.bipush 13, 2) := by decide +kernel
theorem dX1_init_23 : decode cX1_init 23 = .ok (.newarray .int, 2) := by decide +kernel
theorem dX1_init_25 : decode cX1_init 25 = .ok (.putfield 16, 3) := by decide +kernel
theorem dX1_init_28 : decode cX1_init 28 = .ok (.aload_n 0, 1) := by decide +kernel
theorem dX1_init_29 : decode cX1_init 29 = .ok (.bipush 13, 2) := by decide +kernel
theorem dX1_init_31 : decode cX1_init 31 = .ok (.newarray .int, 2) := by decide +kernel
theorem dX1_init_33 : decode cX1_init 33 = .ok (.putfield 19, 3) := by decide +kernel
theorem dX1_init_36 : decode cX1_init 36 = .ok (.return_, 1) := by decide +kernel
abbrev cX1_arc : ByteArray := prog_3_method_4_code
def yX1_arc : MethodName := ⟨RX1, "arc", "(III)I"⟩
theorem dX1_arc_0 : decode cX1_arc 0 = .ok (.aload_n 0, 1) := by decide +kernel
theorem dX1_arc_1 : decode cX1_arc 1 = .ok (.iload_n 1, 1) := by decide +kernel
theorem dX1_arc_2 : decode cX1_arc 2 = .ok (.invokevirtual 26, 3) := by decide +kernel
theorem dX1_arc_5 : decode cX1_arc 5 = .ok (.ifCond .eq 16, 3) := by decide +kernel
theorem dX1_arc_8 : decode cX1_arc 8 = .ok (.aload_n 0, 1) := by decide +kernel
theorem dX1_arc_9 : decode cX1_arc 9 = .ok (.iload_n 2, 1) := by decide +kernel
theorem dX1_arc_10 : decode cX1_arc 10 = .ok (.invokevirtual 26, 3) := by decide +kernel
theorem dX1_arc_13 : decode cX1_arc 13 = .ok (.ifCond .eq 8, 3) := by decide +kernel
theorem dX1_arc_16 : decode cX1_arc 16 = .ok (.iload_n 1, 1) := by decide +kernel
theorem dX1_arc_17 : decode cX1_arc 17 = .ok (.iload_n 2, 1) := by decide +kernel
theorem dX1_arc_18 : decode cX1_arc 18 = .ok (.if_icmp .ne 5, 3) := by decide +kernel
theorem dX1_arc_21 : decode cX1_arc 21 = .ok (.iconst (-1), 1) := by decide +kernel
theorem dX1_arc_22 : decode cX1_arc 22 = .ok (.ireturn, 1) := by decide +kernel
theorem dX1_arc_23 : decode cX1_arc 23 = .ok (.iload_n 3, 1) := by decide +kernel
theorem dX1_arc_24 : decode cX1_arc 24 = .ok (.ifCond .lt 9, 3) := by decide +kernel
theorem dX1_arc_27 : decode cX1_arc 27 = .ok (.iload_n 3, 1) := by decide +kernel
theorem dX1_arc_28 : decode cX1_arc 28 = .ok (.bipush 20, 2) := by decide +kernel
theorem dX1_arc_30 : decode cX1_arc 30 = .ok (.if_icmp .le 6, 3) := by decide +kernel
theorem dX1_arc_33 : decode cX1_arc 33 = .ok (.bipush (-2), 2) := by decide +kernel
theorem dX1_arc_35 : decode cX1_arc 35 = .ok (.ireturn, 1) := by decide +kernel
theorem dX1_arc_36 : decode cX1_arc 36 = .ok (.aload_n 0, 1) := by decide +kernel
theorem dX1_arc_37 : decode cX1_arc 37 = .ok (.getfield 22, 3) := by decide +kernel
theorem dX1_arc_40 : decode cX1_arc 40 = .ok (.bipush 12, 2) := by decide +kernel
theorem dX1_arc_42 : decode cX1_arc 42 = .ok (.if_icmp .ne 6, 3) := by decide +kernel
theorem dX1_arc_45 : decode cX1_arc 45 = .ok (.bipush (-3), 2) := by decide +kernel
theorem dX1_arc_47 : decode cX1_arc 47 = .ok (.ireturn, 1) := by decide +kernel
theorem dX1_arc_48 : decode cX1_arc 48 = .ok (.aload_n 0, 1) := by decide +kernel
theorem dX1_arc_49 : decode cX1_arc 49 = .ok (.iload_n 1, 1) := by decide +kernel
theorem dX1_arc_50 : decode cX1_arc 50 = .ok (.iload_n 2, 1) := by decide +kernel
theorem dX1_arc_51 : decode cX1_arc 51 = .ok (.iconst 0, 1) := by decide +kernel
theorem dX1_arc_52 : decode cX1_arc 52 = .ok (.iload_n 3, 1) := by decide +kernel
theorem dX1_arc_53 : decode cX1_arc 53 = .ok (.invokevirtual 30, 3) := by decide +kernel
theorem dX1_arc_56 : decode cX1_arc 56 = .ok (.aload_n 0, 1) := by decide +kernel
theorem dX1_arc_57 : decode cX1_arc 57 = .ok (.dup, 1) := by decide +kernel
theorem dX1_arc_58 : decode cX1_arc 58 = .ok (.getfield 22, 3) := by decide +kernel
theorem dX1_arc_61 : decode cX1_arc 61 = .ok (.iconst 1, 1) := by decide +kernel
theorem dX1_arc_62 : decode cX1_arc 62 = .ok (.iadd, 1) := by decide +kernel
theorem dX1_arc_63 : decode cX1_arc 63 = .ok (.putfield 22, 3) := by decide +kernel
theorem dX1_arc_66 : decode cX1_arc 66 = .ok (.aload_n 0, 1) := by decide +kernel
theorem dX1_arc_67 : decode cX1_arc 67 = .ok (.getfield 22, 3) := by decide +kernel
theorem dX1_arc_70 : decode cX1_arc 70 = .ok (.iconst 1, 1) := by decide +kernel
theorem dX1_arc_71 : decode cX1_arc 71 = .ok (.isub, 1) := by decide +kernel
theorem dX1_arc_72 : decode cX1_arc 72 = .ok (.ireturn, 1) := by decide +kernel
abbrev cX1_isVertex : ByteArray := prog_3_method_2_code
def yX1_isVertex : MethodName := ⟨RX1, "isVertex", "(I)Z"⟩
theorem dX1_isVertex_0 : decode cX1_isVertex 0 = .ok (.iload_n 1, 1) := by decide +kernel
theorem dX1_isVertex_1 : decode cX1_isVertex 1 = .ok (.ifCond .lt 12, 3) := by decide +kernel
theorem dX1_isVertex_4 : decode cX1_isVertex 4 = .ok (.iload_n 1, 1) := by decide +kernel
theorem dX1_isVertex_5 : decode cX1_isVertex 5 = .ok (.iconst 5, 1) := by decide +kernel
theorem dX1_isVertex_6 : decode cX1_isVertex 6 = .ok (.if_icmp .gt 7, 3) := by decide +kernel
theorem dX1_isVertex_9 : decode cX1_isVertex 9 = .ok (.iconst 1, 1) := by decide +kernel
theorem dX1_isVertex_10 : decode cX1_isVertex 10 = .ok (.goto 4, 3) := by decide +kernel
theorem dX1_isVertex_13 : decode cX1_isVertex 13 = .ok (.iconst 0, 1) := by decide +kernel
theorem dX1_isVertex_14 : decode cX1_isVertex 14 = .ok (.ireturn, 1) := by decide +kernel
abbrev cX1_place : ByteArray := prog_3_method_5_code
def yX1_place : MethodName := ⟨RX1, "place", "(IIII)V"⟩
theorem dX1_place_0 : decode cX1_place 0 = .ok (.aload_n 0, 1) := by decide +kernel
theorem dX1_place_1 : decode cX1_place 1 = .ok (.getfield 7, 3) := by decide +kernel
theorem dX1_place_4 : decode cX1_place 4 = .ok (.aload_n 0, 1) := by decide +kernel
theorem dX1_place_5 : decode cX1_place 5 = .ok (.getfield 22, 3) := by decide +kernel
theorem dX1_place_8 : decode cX1_place 8 = .ok (.iload_n 1, 1) := by decide +kernel
theorem dX1_place_9 : decode cX1_place 9 = .ok (.iastore, 1) := by decide +kernel
theorem dX1_place_10 : decode cX1_place 10 = .ok (.aload_n 0, 1) := by decide +kernel
theorem dX1_place_11 : decode cX1_place 11 = .ok (.getfield 13, 3) := by decide +kernel
theorem dX1_place_14 : decode cX1_place 14 = .ok (.aload_n 0, 1) := by decide +kernel
theorem dX1_place_15 : decode cX1_place 15 = .ok (.getfield 22, 3) := by decide +kernel
theorem dX1_place_18 : decode cX1_place 18 = .ok (.iload_n 2, 1) := by decide +kernel
theorem dX1_place_19 : decode cX1_place 19 = .ok (.iastore, 1) := by decide +kernel
theorem dX1_place_20 : decode cX1_place 20 = .ok (.aload_n 0, 1) := by decide +kernel
theorem dX1_place_21 : decode cX1_place 21 = .ok (.getfield 16, 3) := by decide +kernel
theorem dX1_place_24 : decode cX1_place 24 = .ok (.aload_n 0, 1) := by decide +kernel
theorem dX1_place_25 : decode cX1_place 25 = .ok (.getfield 22, 3) := by decide +kernel
theorem dX1_place_28 : decode cX1_place 28 = .ok (.iload_n 3, 1) := by decide +kernel
theorem dX1_place_29 : decode cX1_place 29 = .ok (.iastore, 1) := by decide +kernel
theorem dX1_place_30 : decode cX1_place 30 = .ok (.aload_n 0, 1) := by decide +kernel
theorem dX1_place_31 : decode cX1_place 31 = .ok (.getfield 19, 3) := by decide +kernel
theorem dX1_place_34 : decode cX1_place 34 = .ok (.aload_n 0, 1) := by decide +kernel
theorem dX1_place_35 : decode cX1_place 35 = .ok (.getfield 22, 3) := by decide +kernel
theorem dX1_place_38 : decode cX1_place 38 = .ok (.iload 4, 2) := by decide +kernel
theorem dX1_place_40 : decode cX1_place 40 = .ok (.iastore, 1) := by decide +kernel
theorem dX1_place_41 : decode cX1_place 41 = .ok (.return_, 1) := by decide +kernel
abbrev cX1_bounds : ByteArray := prog_3_method_6_code
def yX1_bounds : MethodName := ⟨RX1, "bounds", "(III)I"⟩
theorem dX1_bounds_0 : decode cX1_bounds 0 = .ok (.aload_n 0, 1) := by decide +kernel
theorem dX1_bounds_1 : decode cX1_bounds 1 = .ok (.iload_n 1, 1) := by decide +kernel
theorem dX1_bounds_2 : decode cX1_bounds 2 = .ok (.invokevirtual 34, 3) := by decide +kernel
theorem dX1_bounds_5 : decode cX1_bounds 5 = .ok (.ifCond .ne 6, 3) := by decide +kernel
theorem dX1_bounds_8 : decode cX1_bounds 8 = .ok (.bipush (-4), 2) := by decide +kernel
theorem dX1_bounds_10 : decode cX1_bounds 10 = .ok (.ireturn, 1) := by decide +kernel
theorem dX1_bounds_11 : decode cX1_bounds 11 = .ok (.iload_n 2, 1) := by decide +kernel
theorem dX1_bounds_12 : decode cX1_bounds 12 = .ok (.ifCond .lt 14, 3) := by decide +kernel
theorem dX1_bounds_15 : decode cX1_bounds 15 = .ok (.iload_n 2, 1) := by decide +kernel
theorem dX1_bounds_16 : decode cX1_bounds 16 = .ok (.iload_n 3, 1) := by decide +kernel
theorem dX1_bounds_17 : decode cX1_bounds 17 = .ok (.if_icmp .gt 9, 3) := by decide +kernel
theorem dX1_bounds_20 : decode cX1_bounds 20 = .ok (.iload_n 3, 1) := by decide +kernel
theorem dX1_bounds_21 : decode cX1_bounds 21 = .ok (.bipush 20, 2) := by decide +kernel
theorem dX1_bounds_23 : decode cX1_bounds 23 = .ok (.if_icmp .le 6, 3) := by decide +kernel
theorem dX1_bounds_26 : decode cX1_bounds 26 = .ok (.bipush (-2), 2) := by decide +kernel
theorem dX1_bounds_28 : decode cX1_bounds 28 = .ok (.ireturn, 1) := by decide +kernel
theorem dX1_bounds_29 : decode cX1_bounds 29 = .ok (.aload_n 0, 1) := by decide +kernel
theorem dX1_bounds_30 : decode cX1_bounds 30 = .ok (.getfield 16, 3) := by decide +kernel
theorem dX1_bounds_33 : decode cX1_bounds 33 = .ok (.iload_n 1, 1) := by decide +kernel
theorem dX1_bounds_34 : decode cX1_bounds 34 = .ok (.iload_n 2, 1) := by decide +kernel
theorem dX1_bounds_35 : decode cX1_bounds 35 = .ok (.iastore, 1) := by decide +kernel
theorem dX1_bounds_36 : decode cX1_bounds 36 = .ok (.aload_n 0, 1) := by decide +kernel
theorem dX1_bounds_37 : decode cX1_bounds 37 = .ok (.getfield 19, 3) := by decide +kernel
theorem dX1_bounds_40 : decode cX1_bounds 40 = .ok (.iload_n 1, 1) := by decide +kernel
theorem dX1_bounds_41 : decode cX1_bounds 41 = .ok (.iload_n 3, 1) := by decide +kernel
theorem dX1_bounds_42 : decode cX1_bounds 42 = .ok (.iastore, 1) := by decide +kernel
theorem dX1_bounds_43 : decode cX1_bounds 43 = .ok (.iconst 0, 1) := by decide +kernel
theorem dX1_bounds_44 : decode cX1_bounds 44 = .ok (.ireturn, 1) := by decide +kernel
abbrev cX1_isArc : ByteArray := prog_3_method_3_code
def yX1_isArc : MethodName := ⟨RX1, "isArc", "(I)Z"⟩
theorem dX1_isArc_0 : decode cX1_isArc 0 = .ok (.iload_n 1, 1) := by decide +kernel
theorem dX1_isArc_1 : decode cX1_isArc 1 = .ok (.ifCond .lt 15, 3) := by decide +kernel
theorem dX1_isArc_4 : decode cX1_isArc 4 = .ok (.iload_n 1, 1) := by decide +kernel
theorem dX1_isArc_5 : decode cX1_isArc 5 = .ok (.aload_n 0, 1) := by decide +kernel
theorem dX1_isArc_6 : decode cX1_isArc 6 = .ok (.getfield 22, 3) := by decide +kernel
theorem dX1_isArc_9 : decode cX1_isArc 9 = .ok (.if_icmp .ge 7, 3) := by decide +kernel
theorem dX1_isArc_12 : decode cX1_isArc 12 = .ok (.iconst 1, 1) := by decide +kernel
theorem dX1_isArc_13 : decode cX1_isArc 13 = .ok (.goto 4, 3) := by decide +kernel
theorem dX1_isArc_16 : decode cX1_isArc 16 = .ok (.iconst 0, 1) := by decide +kernel
theorem dX1_isArc_17 : decode cX1_isArc 17 = .ok (.ireturn, 1) := by decide +kernel
abbrev cX1_reverse : ByteArray := prog_3_method_7_code
def yX1_reverse : MethodName := ⟨RX1, "reverse", "(I)I"⟩
theorem dX1_reverse_0 : decode cX1_reverse 0 = .ok (.aload_n 0, 1) := by decide +kernel
theorem dX1_reverse_1 : decode cX1_reverse 1 = .ok (.iload_n 1, 1) := by decide +kernel
theorem dX1_reverse_2 : decode cX1_reverse 2 = .ok (.invokevirtual 34, 3) := by decide +kernel
theorem dX1_reverse_5 : decode cX1_reverse 5 = .ok (.ifCond .ne 6, 3) := by decide +kernel
theorem dX1_reverse_8 : decode cX1_reverse 8 = .ok (.bipush (-4), 2) := by decide +kernel
theorem dX1_reverse_10 : decode cX1_reverse 10 = .ok (.ireturn, 1) := by decide +kernel
theorem dX1_reverse_11 : decode cX1_reverse 11 = .ok (.aload_n 0, 1) := by decide +kernel
theorem dX1_reverse_12 : decode cX1_reverse 12 = .ok (.getfield 7, 3) := by decide +kernel
theorem dX1_reverse_15 : decode cX1_reverse 15 = .ok (.iload_n 1, 1) := by decide +kernel
theorem dX1_reverse_16 : decode cX1_reverse 16 = .ok (.iaload, 1) := by decide +kernel
theorem dX1_reverse_17 : decode cX1_reverse 17 = .ok (.istore_n 2, 1) := by decide +kernel
theorem dX1_reverse_18 : decode cX1_reverse 18 = .ok (.aload_n 0, 1) := by decide +kernel
theorem dX1_reverse_19 : decode cX1_reverse 19 = .ok (.getfield 7, 3) := by decide +kernel
theorem dX1_reverse_22 : decode cX1_reverse 22 = .ok (.iload_n 1, 1) := by decide +kernel
theorem dX1_reverse_23 : decode cX1_reverse 23 = .ok (.aload_n 0, 1) := by decide +kernel
theorem dX1_reverse_24 : decode cX1_reverse 24 = .ok (.getfield 13, 3) := by decide +kernel
theorem dX1_reverse_27 : decode cX1_reverse 27 = .ok (.iload_n 1, 1) := by decide +kernel
theorem dX1_reverse_28 : decode cX1_reverse 28 = .ok (.iaload, 1) := by decide +kernel
theorem dX1_reverse_29 : decode cX1_reverse 29 = .ok (.iastore, 1) := by decide +kernel
theorem dX1_reverse_30 : decode cX1_reverse 30 = .ok (.aload_n 0, 1) := by decide +kernel
theorem dX1_reverse_31 : decode cX1_reverse 31 = .ok (.getfield 13, 3) := by decide +kernel
theorem dX1_reverse_34 : decode cX1_reverse 34 = .ok (.iload_n 1, 1) := by decide +kernel
theorem dX1_reverse_35 : decode cX1_reverse 35 = .ok (.iload_n 2, 1) := by decide +kernel
theorem dX1_reverse_36 : decode cX1_reverse 36 = .ok (.iastore, 1) := by decide +kernel
theorem dX1_reverse_37 : decode cX1_reverse 37 = .ok (.iconst 0, 1) := by decide +kernel
theorem dX1_reverse_38 : decode cX1_reverse 38 = .ok (.ireturn, 1) := by decide +kernel
abbrev cX1_dropLast : ByteArray := prog_3_method_8_code
def yX1_dropLast : MethodName := ⟨RX1, "dropLast", "()I"⟩
theorem dX1_dropLast_0 : decode cX1_dropLast 0 = .ok (.aload_n 0, 1) := by decide +kernel
theorem dX1_dropLast_1 : decode cX1_dropLast 1 = .ok (.getfield 22, 3) := by decide +kernel
theorem dX1_dropLast_4 : decode cX1_dropLast 4 = .ok (.ifCond .ne 6, 3) := by decide +kernel
theorem dX1_dropLast_7 : decode cX1_dropLast 7 = .ok (.bipush (-4), 2) := by decide +kernel
theorem dX1_dropLast_9 : decode cX1_dropLast 9 = .ok (.ireturn, 1) := by decide +kernel
theorem dX1_dropLast_10 : decode cX1_dropLast 10 = .ok (.aload_n 0, 1) := by decide +kernel
theorem dX1_dropLast_11 : decode cX1_dropLast 11 = .ok (.dup, 1) := by decide +kernel
theorem dX1_dropLast_12 : decode cX1_dropLast 12 = .ok (.getfield 22, 3) := by decide +kernel
theorem dX1_dropLast_15 : decode cX1_dropLast 15 = .ok (.iconst 1, 1) := by decide +kernel
theorem dX1_dropLast_16 : decode cX1_dropLast 16 = .ok (.isub, 1) := by decide +kernel
theorem dX1_dropLast_17 : decode cX1_dropLast 17 = .ok (.putfield 22, 3) := by decide +kernel
theorem dX1_dropLast_20 : decode cX1_dropLast 20 = .ok (.aload_n 0, 1) := by decide +kernel
theorem dX1_dropLast_21 : decode cX1_dropLast 21 = .ok (.getfield 22, 3) := by decide +kernel
theorem dX1_dropLast_24 : decode cX1_dropLast 24 = .ok (.ireturn, 1) := by decide +kernel
abbrev cX1_possible : ByteArray := prog_3_method_11_code
def yX1_possible : MethodName := ⟨RX1, "possible", "()Z"⟩
theorem dX1_possible_0 : decode cX1_possible 0 = .ok (.aload_n 0, 1) := by decide +kernel
theorem dX1_possible_1 : decode cX1_possible 1 = .ok (.aload_n 0, 1) := by decide +kernel
theorem dX1_possible_2 : decode cX1_possible 2 = .ok (.getfield 22, 3) := by decide +kernel
theorem dX1_possible_5 : decode cX1_possible 5 = .ok (.invokevirtual 41, 3) := by decide +kernel
theorem dX1_possible_8 : decode cX1_possible 8 = .ok (.ifCond .ne 7, 3) := by decide +kernel
theorem dX1_possible_11 : decode cX1_possible 11 = .ok (.iconst 1, 1) := by decide +kernel
theorem dX1_possible_12 : decode cX1_possible 12 = .ok (.goto 4, 3) := by decide +kernel
theorem dX1_possible_15 : decode cX1_possible 15 = .ok (.iconst 0, 1) := by decide +kernel
theorem dX1_possible_16 : decode cX1_possible 16 = .ok (.ireturn, 1) := by decide +kernel
abbrev cX1_worst : ByteArray := prog_3_method_10_code
def yX1_worst : MethodName := ⟨RX1, "worst", "(I)I"⟩
theorem dX1_worst_0 : decode cX1_worst 0 = .ok (.iconst 0, 1) := by decide +kernel
theorem dX1_worst_1 : decode cX1_worst 1 = .ok (.istore_n 2, 1) := by decide +kernel
theorem dX1_worst_2 : decode cX1_worst 2 = .ok (.iconst 0, 1) := by decide +kernel
theorem dX1_worst_3 : decode cX1_worst 3 = .ok (.istore_n 3, 1) := by decide +kernel
theorem dX1_worst_4 : decode cX1_worst 4 = .ok (.iload_n 3, 1) := by decide +kernel
theorem dX1_worst_5 : decode cX1_worst 5 = .ok (.bipush 64, 2) := by decide +kernel
theorem dX1_worst_7 : decode cX1_worst 7 = .ok (.if_icmp .ge 26, 3) := by decide +kernel
theorem dX1_worst_10 : decode cX1_worst 10 = .ok (.aload_n 0, 1) := by decide +kernel
theorem dX1_worst_11 : decode cX1_worst 11 = .ok (.iload_n 3, 1) := by decide +kernel
theorem dX1_worst_12 : decode cX1_worst 12 = .ok (.iload_n 1, 1) := by decide +kernel
theorem dX1_worst_13 : decode cX1_worst 13 = .ok (.invokevirtual 37, 3) := by decide +kernel
theorem dX1_worst_16 : decode cX1_worst 16 = .ok (.istore 4, 2) := by decide +kernel
theorem dX1_worst_18 : decode cX1_worst 18 = .ok (.iload 4, 2) := by decide +kernel
theorem dX1_worst_20 : decode cX1_worst 20 = .ok (.iload_n 2, 1) := by decide +kernel
theorem dX1_worst_21 : decode cX1_worst 21 = .ok (.if_icmp .le 6, 3) := by decide +kernel
theorem dX1_worst_24 : decode cX1_worst 24 = .ok (.iload 4, 2) := by decide +kernel
theorem dX1_worst_26 : decode cX1_worst 26 = .ok (.istore_n 2, 1) := by decide +kernel
theorem dX1_worst_27 : decode cX1_worst 27 = .ok (.iinc 3 1, 3) := by decide +kernel
theorem dX1_worst_30 : decode cX1_worst 30 = .ok (.goto (-26), 3) := by decide +kernel
theorem dX1_worst_33 : decode cX1_worst 33 = .ok (.iload_n 2, 1) := by decide +kernel
theorem dX1_worst_34 : decode cX1_worst 34 = .ok (.ireturn, 1) := by decide +kernel
abbrev cX1_lackOf : ByteArray := prog_3_method_9_code
def yX1_lackOf : MethodName := ⟨RX1, "lackOf", "(II)I"⟩
theorem dX1_lackOf_0 : decode cX1_lackOf 0 = .ok (.iconst 0, 1) := by decide +kernel
theorem dX1_lackOf_1 : decode cX1_lackOf 1 = .ok (.istore_n 3, 1) := by decide +kernel
theorem dX1_lackOf_2 : decode cX1_lackOf 2 = .ok (.iconst 0, 1) := by decide +kernel
theorem dX1_lackOf_3 : decode cX1_lackOf 3 = .ok (.istore 4, 2) := by decide +kernel
theorem dX1_lackOf_5 : decode cX1_lackOf 5 = .ok (.iload 4, 2) := by decide +kernel
theorem dX1_lackOf_7 : decode cX1_lackOf 7 = .ok (.iload_n 2, 1) := by decide +kernel
theorem dX1_lackOf_8 : decode cX1_lackOf 8 = .ok (.if_icmp .ge 91, 3) := by decide +kernel
theorem dX1_lackOf_11 : decode cX1_lackOf 11 = .ok (.iload_n 1, 1) := by decide +kernel
theorem dX1_lackOf_12 : decode cX1_lackOf 12 = .ok (.aload_n 0, 1) := by decide +kernel
theorem dX1_lackOf_13 : decode cX1_lackOf 13 = .ok (.getfield 7, 3) := by decide +kernel
theorem dX1_lackOf_16 : decode cX1_lackOf 16 = .ok (.iload 4, 2) := by decide +kernel
theorem dX1_lackOf_18 : decode cX1_lackOf 18 = .ok (.iaload, 1) := by decide +kernel
theorem dX1_lackOf_19 : decode cX1_lackOf 19 = .ok (.ishr, 1) := by decide +kernel
theorem dX1_lackOf_20 : decode cX1_lackOf 20 = .ok (.iconst 1, 1) := by decide +kernel
theorem dX1_lackOf_21 : decode cX1_lackOf 21 = .ok (.iand, 1) := by decide +kernel
theorem dX1_lackOf_22 : decode cX1_lackOf 22 = .ok (.ifCond .eq 7, 3) := by decide +kernel
theorem dX1_lackOf_25 : decode cX1_lackOf 25 = .ok (.iconst 1, 1) := by decide +kernel
theorem dX1_lackOf_26 : decode cX1_lackOf 26 = .ok (.goto 4, 3) := by decide +kernel
theorem dX1_lackOf_29 : decode cX1_lackOf 29 = .ok (.iconst 0, 1) := by decide +kernel
theorem dX1_lackOf_30 : decode cX1_lackOf 30 = .ok (.istore 5, 2) := by decide +kernel
theorem dX1_lackOf_32 : decode cX1_lackOf 32 = .ok (.iload_n 1, 1) := by decide +kernel
theorem dX1_lackOf_33 : decode cX1_lackOf 33 = .ok (.aload_n 0, 1) := by decide +kernel
theorem dX1_lackOf_34 : decode cX1_lackOf 34 = .ok (.getfield 13, 3) := by decide +kernel
theorem dX1_lackOf_37 : decode cX1_lackOf 37 = .ok (.iload 4, 2) := by decide +kernel
theorem dX1_lackOf_39 : decode cX1_lackOf 39 = .ok (.iaload, 1) := by decide +kernel
theorem dX1_lackOf_40 : decode cX1_lackOf 40 = .ok (.ishr, 1) := by decide +kernel
theorem dX1_lackOf_41 : decode cX1_lackOf 41 = .ok (.iconst 1, 1) := by decide +kernel
theorem dX1_lackOf_42 : decode cX1_lackOf 42 = .ok (.iand, 1) := by decide +kernel
theorem dX1_lackOf_43 : decode cX1_lackOf 43 = .ok (.ifCond .eq 7, 3) := by decide +kernel
theorem dX1_lackOf_46 : decode cX1_lackOf 46 = .ok (.iconst 1, 1) := by decide +kernel
theorem dX1_lackOf_47 : decode cX1_lackOf 47 = .ok (.goto 4, 3) := by decide +kernel
theorem dX1_lackOf_50 : decode cX1_lackOf 50 = .ok (.iconst 0, 1) := by decide +kernel
theorem dX1_lackOf_51 : decode cX1_lackOf 51 = .ok (.istore 6, 2) := by decide +kernel
theorem dX1_lackOf_53 : decode cX1_lackOf 53 = .ok (.iload 6, 2) := by decide +kernel
theorem dX1_lackOf_55 : decode cX1_lackOf 55 = .ok (.ifCond .eq 18, 3) := by decide +kernel
theorem dX1_lackOf_58 : decode cX1_lackOf 58 = .ok (.iload 5, 2) := by decide +kernel
theorem dX1_lackOf_60 : decode cX1_lackOf 60 = .ok (.ifCond .ne 13, 3) := by decide +kernel
theorem dX1_lackOf_63 : decode cX1_lackOf 63 = .ok (.iload_n 3, 1) := by decide +kernel
theorem dX1_lackOf_64 : decode cX1_lackOf 64 = .ok (.aload_n 0, 1) := by decide +kernel
theorem dX1_lackOf_65 : decode cX1_lackOf 65 = .ok (.getfield 16, 3) := by decide +kernel
theorem dX1_lackOf_68 : decode cX1_lackOf 68 = .ok (.iload 4, 2) := by decide +kernel
theorem dX1_lackOf_70 : decode cX1_lackOf 70 = .ok (.iaload, 1) := by decide +kernel
theorem dX1_lackOf_71 : decode cX1_lackOf 71 = .ok (.iadd, 1) := by decide +kernel
theorem dX1_lackOf_72 : decode cX1_lackOf 72 = .ok (.istore_n 3, 1) := by decide +kernel
theorem dX1_lackOf_73 : decode cX1_lackOf 73 = .ok (.iload 5, 2) := by decide +kernel
theorem dX1_lackOf_75 : decode cX1_lackOf 75 = .ok (.ifCond .eq 18, 3) := by decide +kernel
theorem dX1_lackOf_78 : decode cX1_lackOf 78 = .ok (.iload 6, 2) := by decide +kernel
theorem dX1_lackOf_80 : decode cX1_lackOf 80 = .ok (.ifCond .ne 13, 3) := by decide +kernel
theorem dX1_lackOf_83 : decode cX1_lackOf 83 = .ok (.iload_n 3, 1) := by decide +kernel
theorem dX1_lackOf_84 : decode cX1_lackOf 84 = .ok (.aload_n 0, 1) := by decide +kernel
theorem dX1_lackOf_85 : decode cX1_lackOf 85 = .ok (.getfield 19, 3) := by decide +kernel
theorem dX1_lackOf_88 : decode cX1_lackOf 88 = .ok (.iload 4, 2) := by decide +kernel
theorem dX1_lackOf_90 : decode cX1_lackOf 90 = .ok (.iaload, 1) := by decide +kernel
theorem dX1_lackOf_91 : decode cX1_lackOf 91 = .ok (.isub, 1) := by decide +kernel
theorem dX1_lackOf_92 : decode cX1_lackOf 92 = .ok (.istore_n 3, 1) := by decide +kernel
theorem dX1_lackOf_93 : decode cX1_lackOf 93 = .ok (.iinc 4 1, 3) := by decide +kernel
theorem dX1_lackOf_96 : decode cX1_lackOf 96 = .ok (.goto (-91), 3) := by decide +kernel
theorem dX1_lackOf_99 : decode cX1_lackOf 99 = .ok (.iload_n 3, 1) := by decide +kernel
theorem dX1_lackOf_100 : decode cX1_lackOf 100 = .ok (.ireturn, 1) := by decide +kernel
abbrev cX1_lack : ByteArray := prog_3_method_12_code
def yX1_lack : MethodName := ⟨RX1, "lack", "()I"⟩
theorem dX1_lack_0 : decode cX1_lack 0 = .ok (.aload_n 0, 1) := by decide +kernel
theorem dX1_lack_1 : decode cX1_lack 1 = .ok (.aload_n 0, 1) := by decide +kernel
theorem dX1_lack_2 : decode cX1_lack 2 = .ok (.getfield 22, 3) := by decide +kernel
theorem dX1_lack_5 : decode cX1_lack 5 = .ok (.invokevirtual 41, 3) := by decide +kernel
theorem dX1_lack_8 : decode cX1_lack 8 = .ok (.ireturn, 1) := by decide +kernel
abbrev cX1_lackingSet : ByteArray := prog_3_method_13_code
def yX1_lackingSet : MethodName := ⟨RX1, "lackingSet", "()I"⟩
theorem dX1_lackingSet_0 : decode cX1_lackingSet 0 = .ok (.aload_n 0, 1) := by decide +kernel
theorem dX1_lackingSet_1 : decode cX1_lackingSet 1 = .ok (.aload_n 0, 1) := by decide +kernel
theorem dX1_lackingSet_2 : decode cX1_lackingSet 2 = .ok (.getfield 22, 3) := by decide +kernel
theorem dX1_lackingSet_5 : decode cX1_lackingSet 5 = .ok (.invokevirtual 41, 3) := by decide +kernel
theorem dX1_lackingSet_8 : decode cX1_lackingSet 8 = .ok (.istore_n 1, 1) := by decide +kernel
theorem dX1_lackingSet_9 : decode cX1_lackingSet 9 = .ok (.bipush 63, 2) := by decide +kernel
theorem dX1_lackingSet_11 : decode cX1_lackingSet 11 = .ok (.istore_n 2, 1) := by decide +kernel
theorem dX1_lackingSet_12 : decode cX1_lackingSet 12 = .ok (.iconst 0, 1) := by decide +kernel
theorem dX1_lackingSet_13 : decode cX1_lackingSet 13 = .ok (.istore_n 3, 1) := by decide +kernel
theorem dX1_lackingSet_14 : decode cX1_lackingSet 14 = .ok (.iload_n 3, 1) := by decide +kernel
theorem dX1_lackingSet_15 : decode cX1_lackingSet 15 = .ok (.bipush 64, 2) := by decide +kernel
theorem dX1_lackingSet_17 : decode cX1_lackingSet 17 = .ok (.if_icmp .ge 26, 3) := by decide +kernel
theorem dX1_lackingSet_20 : decode cX1_lackingSet 20 = .ok (.aload_n 0, 1) := by decide +kernel
theorem dX1_lackingSet_21 : decode cX1_lackingSet 21 = .ok (.iload_n 3, 1) := by decide +kernel
theorem dX1_lackingSet_22 : decode cX1_lackingSet 22 = .ok (.aload_n 0, 1) := by decide +kernel
theorem dX1_lackingSet_23 : decode cX1_lackingSet 23 = .ok (.getfield 22, 3) := by decide +kernel
theorem dX1_lackingSet_26 : decode cX1_lackingSet 26 = .ok (.invokevirtual 37, 3) := by decide +kernel
theorem dX1_lackingSet_29 : decode cX1_lackingSet 29 = .ok (.iload_n 1, 1) := by decide +kernel
theorem dX1_lackingSet_30 : decode cX1_lackingSet 30 = .ok (.if_icmp .ne 7, 3) := by decide +kernel
theorem dX1_lackingSet_33 : decode cX1_lackingSet 33 = .ok (.iload_n 2, 1) := by decide +kernel
theorem dX1_lackingSet_34 : decode cX1_lackingSet 34 = .ok (.iload_n 3, 1) := by decide +kernel
theorem dX1_lackingSet_35 : decode cX1_lackingSet 35 = .ok (.iand, 1) := by decide +kernel
theorem dX1_lackingSet_36 : decode cX1_lackingSet 36 = .ok (.istore_n 2, 1) := by decide +kernel
theorem dX1_lackingSet_37 : decode cX1_lackingSet 37 = .ok (.iinc 3 1, 3) := by decide +kernel
theorem dX1_lackingSet_40 : decode cX1_lackingSet 40 = .ok (.goto (-26), 3) := by decide +kernel
theorem dX1_lackingSet_43 : decode cX1_lackingSet 43 = .ok (.iload_n 2, 1) := by decide +kernel
theorem dX1_lackingSet_44 : decode cX1_lackingSet 44 = .ok (.ireturn, 1) := by decide +kernel
abbrev cX1_least : ByteArray := prog_3_method_15_code
def yX1_least : MethodName := ⟨RX1, "least", "(I)I"⟩
theorem dX1_least_0 : decode cX1_least 0 = .ok (.aload_n 0, 1) := by decide +kernel
theorem dX1_least_1 : decode cX1_least 1 = .ok (.iload_n 1, 1) := by decide +kernel
theorem dX1_least_2 : decode cX1_least 2 = .ok (.invokevirtual 34, 3) := by decide +kernel
theorem dX1_least_5 : decode cX1_least 5 = .ok (.ifCond .ne 6, 3) := by decide +kernel
theorem dX1_least_8 : decode cX1_least 8 = .ok (.bipush (-4), 2) := by decide +kernel
theorem dX1_least_10 : decode cX1_least 10 = .ok (.ireturn, 1) := by decide +kernel
theorem dX1_least_11 : decode cX1_least 11 = .ok (.aload_n 0, 1) := by decide +kernel
theorem dX1_least_12 : decode cX1_least 12 = .ok (.getfield 16, 3) := by decide +kernel
theorem dX1_least_15 : decode cX1_least 15 = .ok (.iload_n 1, 1) := by decide +kernel
theorem dX1_least_16 : decode cX1_least 16 = .ok (.iaload, 1) := by decide +kernel
theorem dX1_least_17 : decode cX1_least 17 = .ok (.istore_n 2, 1) := by decide +kernel
theorem dX1_least_18 : decode cX1_least 18 = .ok (.iload_n 2, 1) := by decide +kernel
theorem dX1_least_19 : decode cX1_least 19 = .ok (.aload_n 0, 1) := by decide +kernel
theorem dX1_least_20 : decode cX1_least 20 = .ok (.getfield 19, 3) := by decide +kernel
theorem dX1_least_23 : decode cX1_least 23 = .ok (.iload_n 1, 1) := by decide +kernel
theorem dX1_least_24 : decode cX1_least 24 = .ok (.iaload, 1) := by decide +kernel
theorem dX1_least_25 : decode cX1_least 25 = .ok (.if_icmp .gt 20, 3) := by decide +kernel
theorem dX1_least_28 : decode cX1_least 28 = .ok (.aload_n 0, 1) := by decide +kernel
theorem dX1_least_29 : decode cX1_least 29 = .ok (.iload_n 1, 1) := by decide +kernel
theorem dX1_least_30 : decode cX1_least 30 = .ok (.iload_n 2, 1) := by decide +kernel
theorem dX1_least_31 : decode cX1_least 31 = .ok (.invokevirtual 45, 3) := by decide +kernel
theorem dX1_least_34 : decode cX1_least 34 = .ok (.ifCond .eq 5, 3) := by decide +kernel
theorem dX1_least_37 : decode cX1_least 37 = .ok (.iload_n 2, 1) := by decide +kernel
theorem dX1_least_38 : decode cX1_least 38 = .ok (.ireturn, 1) := by decide +kernel
theorem dX1_least_39 : decode cX1_least 39 = .ok (.iinc 2 1, 3) := by decide +kernel
theorem dX1_least_42 : decode cX1_least 42 = .ok (.goto (-24), 3) := by decide +kernel
theorem dX1_least_45 : decode cX1_least 45 = .ok (.bipush (-5), 2) := by decide +kernel
theorem dX1_least_47 : decode cX1_least 47 = .ok (.ireturn, 1) := by decide +kernel
abbrev cX1_allows : ByteArray := prog_3_method_14_code
def yX1_allows : MethodName := ⟨RX1, "allows", "(II)Z"⟩
theorem dX1_allows_0 : decode cX1_allows 0 = .ok (.aload_n 0, 1) := by decide +kernel
theorem dX1_allows_1 : decode cX1_allows 1 = .ok (.getfield 16, 3) := by decide +kernel
theorem dX1_allows_4 : decode cX1_allows 4 = .ok (.iload_n 1, 1) := by decide +kernel
theorem dX1_allows_5 : decode cX1_allows 5 = .ok (.iaload, 1) := by decide +kernel
theorem dX1_allows_6 : decode cX1_allows 6 = .ok (.istore_n 3, 1) := by decide +kernel
theorem dX1_allows_7 : decode cX1_allows 7 = .ok (.aload_n 0, 1) := by decide +kernel
theorem dX1_allows_8 : decode cX1_allows 8 = .ok (.getfield 19, 3) := by decide +kernel
theorem dX1_allows_11 : decode cX1_allows 11 = .ok (.iload_n 1, 1) := by decide +kernel
theorem dX1_allows_12 : decode cX1_allows 12 = .ok (.iaload, 1) := by decide +kernel
theorem dX1_allows_13 : decode cX1_allows 13 = .ok (.istore 4, 2) := by decide +kernel
theorem dX1_allows_15 : decode cX1_allows 15 = .ok (.aload_n 0, 1) := by decide +kernel
theorem dX1_allows_16 : decode cX1_allows 16 = .ok (.getfield 16, 3) := by decide +kernel
theorem dX1_allows_19 : decode cX1_allows 19 = .ok (.iload_n 1, 1) := by decide +kernel
theorem dX1_allows_20 : decode cX1_allows 20 = .ok (.iload_n 2, 1) := by decide +kernel
theorem dX1_allows_21 : decode cX1_allows 21 = .ok (.iastore, 1) := by decide +kernel
theorem dX1_allows_22 : decode cX1_allows 22 = .ok (.aload_n 0, 1) := by decide +kernel
theorem dX1_allows_23 : decode cX1_allows 23 = .ok (.getfield 19, 3) := by decide +kernel
theorem dX1_allows_26 : decode cX1_allows 26 = .ok (.iload_n 1, 1) := by decide +kernel
theorem dX1_allows_27 : decode cX1_allows 27 = .ok (.iload_n 2, 1) := by decide +kernel
theorem dX1_allows_28 : decode cX1_allows 28 = .ok (.iastore, 1) := by decide +kernel
theorem dX1_allows_29 : decode cX1_allows 29 = .ok (.aload_n 0, 1) := by decide +kernel
theorem dX1_allows_30 : decode cX1_allows 30 = .ok (.aload_n 0, 1) := by decide +kernel
theorem dX1_allows_31 : decode cX1_allows 31 = .ok (.getfield 22, 3) := by decide +kernel
theorem dX1_allows_34 : decode cX1_allows 34 = .ok (.invokevirtual 41, 3) := by decide +kernel
theorem dX1_allows_37 : decode cX1_allows 37 = .ok (.ifCond .ne 7, 3) := by decide +kernel
theorem dX1_allows_40 : decode cX1_allows 40 = .ok (.iconst 1, 1) := by decide +kernel
theorem dX1_allows_41 : decode cX1_allows 41 = .ok (.goto 4, 3) := by decide +kernel
theorem dX1_allows_44 : decode cX1_allows 44 = .ok (.iconst 0, 1) := by decide +kernel
theorem dX1_allows_45 : decode cX1_allows 45 = .ok (.istore 5, 2) := by decide +kernel
theorem dX1_allows_47 : decode cX1_allows 47 = .ok (.aload_n 0, 1) := by decide +kernel
theorem dX1_allows_48 : decode cX1_allows 48 = .ok (.getfield 16, 3) := by decide +kernel
theorem dX1_allows_51 : decode cX1_allows 51 = .ok (.iload_n 1, 1) := by decide +kernel
theorem dX1_allows_52 : decode cX1_allows 52 = .ok (.iload_n 3, 1) := by decide +kernel
theorem dX1_allows_53 : decode cX1_allows 53 = .ok (.iastore, 1) := by decide +kernel
theorem dX1_allows_54 : decode cX1_allows 54 = .ok (.aload_n 0, 1) := by decide +kernel
theorem dX1_allows_55 : decode cX1_allows 55 = .ok (.getfield 19, 3) := by decide +kernel
theorem dX1_allows_58 : decode cX1_allows 58 = .ok (.iload_n 1, 1) := by decide +kernel
theorem dX1_allows_59 : decode cX1_allows 59 = .ok (.iload 4, 2) := by decide +kernel
theorem dX1_allows_61 : decode cX1_allows 61 = .ok (.iastore, 1) := by decide +kernel
theorem dX1_allows_62 : decode cX1_allows 62 = .ok (.iload 5, 2) := by decide +kernel
theorem dX1_allows_64 : decode cX1_allows 64 = .ok (.ireturn, 1) := by decide +kernel
abbrev cX1_most : ByteArray := prog_3_method_16_code
def yX1_most : MethodName := ⟨RX1, "most", "(I)I"⟩
theorem dX1_most_0 : decode cX1_most 0 = .ok (.aload_n 0, 1) := by decide +kernel
theorem dX1_most_1 : decode cX1_most 1 = .ok (.iload_n 1, 1) := by decide +kernel
theorem dX1_most_2 : decode cX1_most 2 = .ok (.invokevirtual 34, 3) := by decide +kernel
theorem dX1_most_5 : decode cX1_most 5 = .ok (.ifCond .ne 6, 3) := by decide +kernel
theorem dX1_most_8 : decode cX1_most 8 = .ok (.bipush (-4), 2) := by decide +kernel
theorem dX1_most_10 : decode cX1_most 10 = .ok (.ireturn, 1) := by decide +kernel
theorem dX1_most_11 : decode cX1_most 11 = .ok (.aload_n 0, 1) := by decide +kernel
theorem dX1_most_12 : decode cX1_most 12 = .ok (.getfield 19, 3) := by decide +kernel
theorem dX1_most_15 : decode cX1_most 15 = .ok (.iload_n 1, 1) := by decide +kernel
theorem dX1_most_16 : decode cX1_most 16 = .ok (.iaload, 1) := by decide +kernel
theorem dX1_most_17 : decode cX1_most 17 = .ok (.istore_n 2, 1) := by decide +kernel
theorem dX1_most_18 : decode cX1_most 18 = .ok (.iload_n 2, 1) := by decide +kernel
theorem dX1_most_19 : decode cX1_most 19 = .ok (.aload_n 0, 1) := by decide +kernel
theorem dX1_most_20 : decode cX1_most 20 = .ok (.getfield 16, 3) := by decide +kernel
theorem dX1_most_23 : decode cX1_most 23 = .ok (.iload_n 1, 1) := by decide +kernel
theorem dX1_most_24 : decode cX1_most 24 = .ok (.iaload, 1) := by decide +kernel
theorem dX1_most_25 : decode cX1_most 25 = .ok (.if_icmp .lt 20, 3) := by decide +kernel
theorem dX1_most_28 : decode cX1_most 28 = .ok (.aload_n 0, 1) := by decide +kernel
theorem dX1_most_29 : decode cX1_most 29 = .ok (.iload_n 1, 1) := by decide +kernel
theorem dX1_most_30 : decode cX1_most 30 = .ok (.iload_n 2, 1) := by decide +kernel
theorem dX1_most_31 : decode cX1_most 31 = .ok (.invokevirtual 45, 3) := by decide +kernel
theorem dX1_most_34 : decode cX1_most 34 = .ok (.ifCond .eq 5, 3) := by decide +kernel
theorem dX1_most_37 : decode cX1_most 37 = .ok (.iload_n 2, 1) := by decide +kernel
theorem dX1_most_38 : decode cX1_most 38 = .ok (.ireturn, 1) := by decide +kernel
theorem dX1_most_39 : decode cX1_most 39 = .ok (.iinc 2 (-1), 3) := by decide +kernel
theorem dX1_most_42 : decode cX1_most 42 = .ok (.goto (-24), 3) := by decide +kernel
theorem dX1_most_45 : decode cX1_most 45 = .ok (.bipush (-5), 2) := by decide +kernel
theorem dX1_most_47 : decode cX1_most 47 = .ok (.ireturn, 1) := by decide +kernel
abbrev cX1_through : ByteArray := prog_3_method_17_code
def yX1_through : MethodName := ⟨RX1, "through", "(II)I"⟩
theorem dX1_through_0 : decode cX1_through 0 = .ok (.aload_n 0, 1) := by decide +kernel
theorem dX1_through_1 : decode cX1_through 1 = .ok (.iload_n 1, 1) := by decide +kernel
theorem dX1_through_2 : decode cX1_through 2 = .ok (.invokevirtual 26, 3) := by decide +kernel
theorem dX1_through_5 : decode cX1_through 5 = .ok (.ifCond .eq 16, 3) := by decide +kernel
theorem dX1_through_8 : decode cX1_through 8 = .ok (.aload_n 0, 1) := by decide +kernel
theorem dX1_through_9 : decode cX1_through 9 = .ok (.iload_n 2, 1) := by decide +kernel
theorem dX1_through_10 : decode cX1_through 10 = .ok (.invokevirtual 26, 3) := by decide +kernel
theorem dX1_through_13 : decode cX1_through 13 = .ok (.ifCond .eq 8, 3) := by decide +kernel
theorem dX1_through_16 : decode cX1_through 16 = .ok (.iload_n 1, 1) := by decide +kernel
theorem dX1_through_17 : decode cX1_through 17 = .ok (.iload_n 2, 1) := by decide +kernel
theorem dX1_through_18 : decode cX1_through 18 = .ok (.if_icmp .ne 5, 3) := by decide +kernel
theorem dX1_through_21 : decode cX1_through 21 = .ok (.iconst (-1), 1) := by decide +kernel
theorem dX1_through_22 : decode cX1_through 22 = .ok (.ireturn, 1) := by decide +kernel
theorem dX1_through_23 : decode cX1_through 23 = .ok (.sipush 240, 3) := by decide +kernel
theorem dX1_through_26 : decode cX1_through 26 = .ok (.istore_n 3, 1) := by decide +kernel
theorem dX1_through_27 : decode cX1_through 27 = .ok (.iload_n 3, 1) := by decide +kernel
theorem dX1_through_28 : decode cX1_through 28 = .ok (.ifCond .lt 32, 3) := by decide +kernel
theorem dX1_through_31 : decode cX1_through 31 = .ok (.aload_n 0, 1) := by decide +kernel
theorem dX1_through_32 : decode cX1_through 32 = .ok (.iload_n 2, 1) := by decide +kernel
theorem dX1_through_33 : decode cX1_through 33 = .ok (.iload_n 1, 1) := by decide +kernel
theorem dX1_through_34 : decode cX1_through 34 = .ok (.iload_n 3, 1) := by decide +kernel
theorem dX1_through_35 : decode cX1_through 35 = .ok (.iload_n 3, 1) := by decide +kernel
theorem dX1_through_36 : decode cX1_through 36 = .ok (.invokevirtual 30, 3) := by decide +kernel
theorem dX1_through_39 : decode cX1_through 39 = .ok (.aload_n 0, 1) := by decide +kernel
theorem dX1_through_40 : decode cX1_through 40 = .ok (.aload_n 0, 1) := by decide +kernel
theorem dX1_through_41 : decode cX1_through 41 = .ok (.getfield 22, 3) := by decide +kernel
theorem dX1_through_44 : decode cX1_through 44 = .ok (.iconst 1, 1) := by decide +kernel
theorem dX1_through_45 : decode cX1_through 45 = .ok (.iadd, 1) := by decide +kernel
theorem dX1_through_46 : decode cX1_through 46 = .ok (.invokevirtual 41, 3) := by decide +kernel
theorem dX1_through_49 : decode cX1_through 49 = .ok (.ifCond .ne 5, 3) := by decide +kernel
theorem dX1_through_52 : decode cX1_through 52 = .ok (.iload_n 3, 1) := by decide +kernel
theorem dX1_through_53 : decode cX1_through 53 = .ok (.ireturn, 1) := by decide +kernel
theorem dX1_through_54 : decode cX1_through 54 = .ok (.iinc 3 (-1), 3) := by decide +kernel
theorem dX1_through_57 : decode cX1_through 57 = .ok (.goto (-30), 3) := by decide +kernel
theorem dX1_through_60 : decode cX1_through 60 = .ok (.bipush (-5), 2) := by decide +kernel
theorem dX1_through_62 : decode cX1_through 62 = .ok (.ireturn, 1) := by decide +kernel
abbrev cX1_arcs : ByteArray := prog_3_method_18_code
def yX1_arcs : MethodName := ⟨RX1, "arcs", "()I"⟩
theorem dX1_arcs_0 : decode cX1_arcs 0 = .ok (.aload_n 0, 1) := by decide +kernel
theorem dX1_arcs_1 : decode cX1_arcs 1 = .ok (.getfield 22, 3) := by decide +kernel
theorem dX1_arcs_4 : decode cX1_arcs 4 = .ok (.ireturn, 1) := by decide +kernel
theorem q17 : (Jvm.Cond.initialized "CirculationRangeModel") ∈ lw_all := lw_g (lw_at lw_m0 2 rfl) rfl
theorem q151 : (Jvm.Cond.instantiable "CirculationRangeModel" (5 : Nat)) ∈ lw_all := lw_g (lw_at lw_m0 136 rfl) rfl
theorem q153 : (Jvm.Cond.instanceMethod ({ cls := "CirculationRangeModel", name := "<init>", desc := "()V" } : Jvm.MethodName)) ∈ lw_all := lw_g (lw_at lw_m0 138 rfl) rfl
theorem q154 : (Jvm.Cond.code ({ cls := "CirculationRangeModel", name := "<init>", desc := "()V" } : Jvm.MethodName) prog_3_method_1_code (1 : Nat) (Option.none : Option Jvm.ClassFile.FieldType)) ∈ lw_all := lw_g (lw_at lw_m0 139 rfl) rfl
theorem q155 : (Jvm.Cond.methodLink "CirculationRangeModel" (1 : Nat) ({ cls := "java/lang/Object", name := "<init>", desc := "()V" } : Jvm.MethodName)) ∈ lw_all := lw_g (lw_at lw_m0 140 rfl) rfl
theorem q156 : (Jvm.Cond.fieldLink "CirculationRangeModel" (7 : Nat) "CirculationRangeModel" "tail" "[I") ∈ lw_all := lw_g (lw_at lw_m0 141 rfl) rfl
theorem q157 : (Jvm.Cond.fieldLink "CirculationRangeModel" (13 : Nat) "CirculationRangeModel" "head" "[I") ∈ lw_all := lw_g (lw_at lw_m0 142 rfl) rfl
theorem q158 : (Jvm.Cond.fieldLink "CirculationRangeModel" (16 : Nat) "CirculationRangeModel" "low" "[I") ∈ lw_all := lw_g (lw_at lw_m0 143 rfl) rfl
theorem q159 : (Jvm.Cond.fieldLink "CirculationRangeModel" (19 : Nat) "CirculationRangeModel" "high" "[I") ∈ lw_all := lw_g (lw_at lw_m0 144 rfl) rfl
theorem q160 : (Jvm.Cond.fieldLink "CirculationRangeModel" (22 : Nat) "CirculationRangeModel" "count" "I") ∈ lw_all := lw_g (lw_at lw_m0 145 rfl) rfl
theorem q161 : (Jvm.Cond.laysFinal "CirculationRangeModel" "CirculationRangeModel" "tail" "[I") ∈ lw_all := lw_g (lw_at lw_m0 146 rfl) rfl
theorem q162 : (Jvm.Cond.soleField "CirculationRangeModel" "tail") ∈ lw_all := lw_g (lw_at lw_m0 147 rfl) rfl
theorem q163 : (Jvm.Cond.laysFinal "CirculationRangeModel" "CirculationRangeModel" "head" "[I") ∈ lw_all := lw_g (lw_at lw_m0 148 rfl) rfl
theorem q164 : (Jvm.Cond.soleField "CirculationRangeModel" "head") ∈ lw_all := lw_g (lw_at lw_m0 149 rfl) rfl
theorem q165 : (Jvm.Cond.laysFinal "CirculationRangeModel" "CirculationRangeModel" "low" "[I") ∈ lw_all := lw_g (lw_at lw_m0 150 rfl) rfl
theorem q166 : (Jvm.Cond.soleField "CirculationRangeModel" "low") ∈ lw_all := lw_g (lw_at lw_m0 151 rfl) rfl
theorem q167 : (Jvm.Cond.laysFinal "CirculationRangeModel" "CirculationRangeModel" "high" "[I") ∈ lw_all := lw_g (lw_at lw_m0 152 rfl) rfl
theorem q168 : (Jvm.Cond.soleField "CirculationRangeModel" "high") ∈ lw_all := lw_g (lw_at lw_m0 153 rfl) rfl
theorem q169 : (Jvm.Cond.lays "CirculationRangeModel" "CirculationRangeModel" "count" "I") ∈ lw_all := lw_g (lw_at lw_m0 154 rfl) rfl
theorem q170 : (Jvm.Cond.soleField "CirculationRangeModel" "count") ∈ lw_all := lw_g (lw_at lw_m0 155 rfl) rfl
theorem q171 : (Jvm.Cond.superclass "CirculationRangeModel" "java/lang/Object") ∈ lw_all := lw_g (lw_at lw_m0 156 rfl) rfl
theorem q173 : (Jvm.Cond.instanceMethod ({ cls := "CirculationRangeModel", name := "arc", desc := "(III)I" } : Jvm.MethodName)) ∈ lw_all := lw_g (lw_at lw_m0 158 rfl) rfl
theorem q174 : (Jvm.Cond.selects "CirculationRangeModel" ({ cls := "CirculationRangeModel", name := "arc", desc := "(III)I" } : Jvm.MethodName) ({ cls := "CirculationRangeModel", name := "arc", desc := "(III)I" } : Jvm.MethodName)) ∈ lw_all := lw_g (lw_at lw_m0 159 rfl) rfl
theorem q175 : (Jvm.Cond.code ({ cls := "CirculationRangeModel", name := "arc", desc := "(III)I" } : Jvm.MethodName) prog_3_method_4_code (4 : Nat) (Option.some Jvm.ClassFile.FieldType.int)) ∈ lw_all := lw_g (lw_at lw_m0 160 rfl) rfl
theorem q176 : (Jvm.Cond.methodLink "CirculationRangeModel" (26 : Nat) ({ cls := "CirculationRangeModel", name := "isVertex", desc := "(I)Z" } : Jvm.MethodName)) ∈ lw_all := lw_g (lw_at lw_m0 161 rfl) rfl
theorem q177 : (Jvm.Cond.privateMethod ({ cls := "CirculationRangeModel", name := "isVertex", desc := "(I)Z" } : Jvm.MethodName)) ∈ lw_tbl := lw_at lw_m0 162 rfl
theorem q178 : (Jvm.Cond.instanceMethod ({ cls := "CirculationRangeModel", name := "isVertex", desc := "(I)Z" } : Jvm.MethodName)) ∈ lw_all := lw_g (lw_at lw_m0 163 rfl) rfl
theorem q179 : (Jvm.Cond.code ({ cls := "CirculationRangeModel", name := "isVertex", desc := "(I)Z" } : Jvm.MethodName) prog_3_method_2_code (2 : Nat) (Option.some Jvm.ClassFile.FieldType.boolean)) ∈ lw_all := lw_g (lw_at lw_m0 164 rfl) rfl
theorem q180 : (Jvm.Cond.methodLink "CirculationRangeModel" (30 : Nat) ({ cls := "CirculationRangeModel", name := "place", desc := "(IIII)V" } : Jvm.MethodName)) ∈ lw_all := lw_g (lw_at lw_m0 165 rfl) rfl
theorem q181 : (Jvm.Cond.privateMethod ({ cls := "CirculationRangeModel", name := "place", desc := "(IIII)V" } : Jvm.MethodName)) ∈ lw_tbl := lw_at lw_m0 166 rfl
theorem q182 : (Jvm.Cond.instanceMethod ({ cls := "CirculationRangeModel", name := "place", desc := "(IIII)V" } : Jvm.MethodName)) ∈ lw_all := lw_g (lw_at lw_m0 167 rfl) rfl
theorem q183 : (Jvm.Cond.code ({ cls := "CirculationRangeModel", name := "place", desc := "(IIII)V" } : Jvm.MethodName) prog_3_method_5_code (5 : Nat) (Option.none : Option Jvm.ClassFile.FieldType)) ∈ lw_all := lw_g (lw_at lw_m0 168 rfl) rfl
theorem q185 : (Jvm.Cond.instanceMethod ({ cls := "CirculationRangeModel", name := "bounds", desc := "(III)I" } : Jvm.MethodName)) ∈ lw_all := lw_g (lw_at lw_m0 170 rfl) rfl
theorem q186 : (Jvm.Cond.selects "CirculationRangeModel" ({ cls := "CirculationRangeModel", name := "bounds", desc := "(III)I" } : Jvm.MethodName) ({ cls := "CirculationRangeModel", name := "bounds", desc := "(III)I" } : Jvm.MethodName)) ∈ lw_all := lw_g (lw_at lw_m0 171 rfl) rfl
theorem q187 : (Jvm.Cond.code ({ cls := "CirculationRangeModel", name := "bounds", desc := "(III)I" } : Jvm.MethodName) prog_3_method_6_code (4 : Nat) (Option.some Jvm.ClassFile.FieldType.int)) ∈ lw_all := lw_g (lw_at lw_m0 172 rfl) rfl
theorem q188 : (Jvm.Cond.methodLink "CirculationRangeModel" (34 : Nat) ({ cls := "CirculationRangeModel", name := "isArc", desc := "(I)Z" } : Jvm.MethodName)) ∈ lw_all := lw_g (lw_at lw_m0 173 rfl) rfl
theorem q189 : (Jvm.Cond.privateMethod ({ cls := "CirculationRangeModel", name := "isArc", desc := "(I)Z" } : Jvm.MethodName)) ∈ lw_tbl := lw_at lw_m0 174 rfl
theorem q190 : (Jvm.Cond.instanceMethod ({ cls := "CirculationRangeModel", name := "isArc", desc := "(I)Z" } : Jvm.MethodName)) ∈ lw_all := lw_g (lw_at lw_m0 175 rfl) rfl
theorem q191 : (Jvm.Cond.code ({ cls := "CirculationRangeModel", name := "isArc", desc := "(I)Z" } : Jvm.MethodName) prog_3_method_3_code (2 : Nat) (Option.some Jvm.ClassFile.FieldType.boolean)) ∈ lw_all := lw_g (lw_at lw_m0 176 rfl) rfl
theorem q193 : (Jvm.Cond.instanceMethod ({ cls := "CirculationRangeModel", name := "reverse", desc := "(I)I" } : Jvm.MethodName)) ∈ lw_all := lw_g (lw_at lw_m0 178 rfl) rfl
theorem q194 : (Jvm.Cond.selects "CirculationRangeModel" ({ cls := "CirculationRangeModel", name := "reverse", desc := "(I)I" } : Jvm.MethodName) ({ cls := "CirculationRangeModel", name := "reverse", desc := "(I)I" } : Jvm.MethodName)) ∈ lw_all := lw_g (lw_at lw_m0 179 rfl) rfl
theorem q195 : (Jvm.Cond.code ({ cls := "CirculationRangeModel", name := "reverse", desc := "(I)I" } : Jvm.MethodName) prog_3_method_7_code (3 : Nat) (Option.some Jvm.ClassFile.FieldType.int)) ∈ lw_all := lw_g (lw_at lw_m0 180 rfl) rfl
theorem q197 : (Jvm.Cond.instanceMethod ({ cls := "CirculationRangeModel", name := "dropLast", desc := "()I" } : Jvm.MethodName)) ∈ lw_all := lw_g (lw_at lw_m0 182 rfl) rfl
theorem q198 : (Jvm.Cond.selects "CirculationRangeModel" ({ cls := "CirculationRangeModel", name := "dropLast", desc := "()I" } : Jvm.MethodName) ({ cls := "CirculationRangeModel", name := "dropLast", desc := "()I" } : Jvm.MethodName)) ∈ lw_all := lw_g (lw_at lw_m0 183 rfl) rfl
theorem q199 : (Jvm.Cond.code ({ cls := "CirculationRangeModel", name := "dropLast", desc := "()I" } : Jvm.MethodName) prog_3_method_8_code (1 : Nat) (Option.some Jvm.ClassFile.FieldType.int)) ∈ lw_all := lw_g (lw_at lw_m0 184 rfl) rfl
theorem q201 : (Jvm.Cond.instanceMethod ({ cls := "CirculationRangeModel", name := "possible", desc := "()Z" } : Jvm.MethodName)) ∈ lw_all := lw_g (lw_at lw_m0 186 rfl) rfl
theorem q202 : (Jvm.Cond.selects "CirculationRangeModel" ({ cls := "CirculationRangeModel", name := "possible", desc := "()Z" } : Jvm.MethodName) ({ cls := "CirculationRangeModel", name := "possible", desc := "()Z" } : Jvm.MethodName)) ∈ lw_all := lw_g (lw_at lw_m0 187 rfl) rfl
theorem q203 : (Jvm.Cond.code ({ cls := "CirculationRangeModel", name := "possible", desc := "()Z" } : Jvm.MethodName) prog_3_method_11_code (1 : Nat) (Option.some Jvm.ClassFile.FieldType.boolean)) ∈ lw_all := lw_g (lw_at lw_m0 188 rfl) rfl
theorem q204 : (Jvm.Cond.methodLink "CirculationRangeModel" (41 : Nat) ({ cls := "CirculationRangeModel", name := "worst", desc := "(I)I" } : Jvm.MethodName)) ∈ lw_all := lw_g (lw_at lw_m0 189 rfl) rfl
theorem q205 : (Jvm.Cond.privateMethod ({ cls := "CirculationRangeModel", name := "worst", desc := "(I)I" } : Jvm.MethodName)) ∈ lw_tbl := lw_at lw_m0 190 rfl
theorem q206 : (Jvm.Cond.instanceMethod ({ cls := "CirculationRangeModel", name := "worst", desc := "(I)I" } : Jvm.MethodName)) ∈ lw_all := lw_g (lw_at lw_m0 191 rfl) rfl
theorem q207 : (Jvm.Cond.code ({ cls := "CirculationRangeModel", name := "worst", desc := "(I)I" } : Jvm.MethodName) prog_3_method_10_code (5 : Nat) (Option.some Jvm.ClassFile.FieldType.int)) ∈ lw_all := lw_g (lw_at lw_m0 192 rfl) rfl
theorem q208 : (Jvm.Cond.methodLink "CirculationRangeModel" (37 : Nat) ({ cls := "CirculationRangeModel", name := "lackOf", desc := "(II)I" } : Jvm.MethodName)) ∈ lw_all := lw_g (lw_at lw_m0 193 rfl) rfl
theorem q209 : (Jvm.Cond.privateMethod ({ cls := "CirculationRangeModel", name := "lackOf", desc := "(II)I" } : Jvm.MethodName)) ∈ lw_tbl := lw_at lw_m0 194 rfl
theorem q210 : (Jvm.Cond.instanceMethod ({ cls := "CirculationRangeModel", name := "lackOf", desc := "(II)I" } : Jvm.MethodName)) ∈ lw_all := lw_g (lw_at lw_m0 195 rfl) rfl
theorem q211 : (Jvm.Cond.code ({ cls := "CirculationRangeModel", name := "lackOf", desc := "(II)I" } : Jvm.MethodName) prog_3_method_9_code (7 : Nat) (Option.some Jvm.ClassFile.FieldType.int)) ∈ lw_all := lw_g (lw_at lw_m0 196 rfl) rfl
theorem q213 : (Jvm.Cond.instanceMethod ({ cls := "CirculationRangeModel", name := "lack", desc := "()I" } : Jvm.MethodName)) ∈ lw_all := lw_g (lw_at lw_m0 198 rfl) rfl
theorem q214 : (Jvm.Cond.selects "CirculationRangeModel" ({ cls := "CirculationRangeModel", name := "lack", desc := "()I" } : Jvm.MethodName) ({ cls := "CirculationRangeModel", name := "lack", desc := "()I" } : Jvm.MethodName)) ∈ lw_all := lw_g (lw_at lw_m0 199 rfl) rfl
theorem q215 : (Jvm.Cond.code ({ cls := "CirculationRangeModel", name := "lack", desc := "()I" } : Jvm.MethodName) prog_3_method_12_code (1 : Nat) (Option.some Jvm.ClassFile.FieldType.int)) ∈ lw_all := lw_g (lw_at lw_m0 200 rfl) rfl
theorem q217 : (Jvm.Cond.instanceMethod ({ cls := "CirculationRangeModel", name := "lackingSet", desc := "()I" } : Jvm.MethodName)) ∈ lw_all := lw_g (lw_at lw_m0 202 rfl) rfl
theorem q218 : (Jvm.Cond.selects "CirculationRangeModel" ({ cls := "CirculationRangeModel", name := "lackingSet", desc := "()I" } : Jvm.MethodName) ({ cls := "CirculationRangeModel", name := "lackingSet", desc := "()I" } : Jvm.MethodName)) ∈ lw_all := lw_g (lw_at lw_m0 203 rfl) rfl
theorem q219 : (Jvm.Cond.code ({ cls := "CirculationRangeModel", name := "lackingSet", desc := "()I" } : Jvm.MethodName) prog_3_method_13_code (4 : Nat) (Option.some Jvm.ClassFile.FieldType.int)) ∈ lw_all := lw_g (lw_at lw_m0 204 rfl) rfl
theorem q221 : (Jvm.Cond.instanceMethod ({ cls := "CirculationRangeModel", name := "least", desc := "(I)I" } : Jvm.MethodName)) ∈ lw_all := lw_g (lw_at lw_m0 206 rfl) rfl
theorem q222 : (Jvm.Cond.selects "CirculationRangeModel" ({ cls := "CirculationRangeModel", name := "least", desc := "(I)I" } : Jvm.MethodName) ({ cls := "CirculationRangeModel", name := "least", desc := "(I)I" } : Jvm.MethodName)) ∈ lw_all := lw_g (lw_at lw_m0 207 rfl) rfl
theorem q223 : (Jvm.Cond.code ({ cls := "CirculationRangeModel", name := "least", desc := "(I)I" } : Jvm.MethodName) prog_3_method_15_code (3 : Nat) (Option.some Jvm.ClassFile.FieldType.int)) ∈ lw_all := lw_g (lw_at lw_m0 208 rfl) rfl
theorem q224 : (Jvm.Cond.methodLink "CirculationRangeModel" (45 : Nat) ({ cls := "CirculationRangeModel", name := "allows", desc := "(II)Z" } : Jvm.MethodName)) ∈ lw_all := lw_g (lw_at lw_m0 209 rfl) rfl
theorem q225 : (Jvm.Cond.privateMethod ({ cls := "CirculationRangeModel", name := "allows", desc := "(II)Z" } : Jvm.MethodName)) ∈ lw_tbl := lw_at lw_m0 210 rfl
theorem q226 : (Jvm.Cond.instanceMethod ({ cls := "CirculationRangeModel", name := "allows", desc := "(II)Z" } : Jvm.MethodName)) ∈ lw_all := lw_g (lw_at lw_m0 211 rfl) rfl
theorem q227 : (Jvm.Cond.code ({ cls := "CirculationRangeModel", name := "allows", desc := "(II)Z" } : Jvm.MethodName) prog_3_method_14_code (6 : Nat) (Option.some Jvm.ClassFile.FieldType.boolean)) ∈ lw_all := lw_g (lw_at lw_m0 212 rfl) rfl
theorem q229 : (Jvm.Cond.instanceMethod ({ cls := "CirculationRangeModel", name := "most", desc := "(I)I" } : Jvm.MethodName)) ∈ lw_all := lw_g (lw_at lw_m0 214 rfl) rfl
theorem q230 : (Jvm.Cond.selects "CirculationRangeModel" ({ cls := "CirculationRangeModel", name := "most", desc := "(I)I" } : Jvm.MethodName) ({ cls := "CirculationRangeModel", name := "most", desc := "(I)I" } : Jvm.MethodName)) ∈ lw_all := lw_g (lw_at lw_m0 215 rfl) rfl
theorem q231 : (Jvm.Cond.code ({ cls := "CirculationRangeModel", name := "most", desc := "(I)I" } : Jvm.MethodName) prog_3_method_16_code (3 : Nat) (Option.some Jvm.ClassFile.FieldType.int)) ∈ lw_all := lw_g (lw_at lw_m0 216 rfl) rfl
theorem q233 : (Jvm.Cond.instanceMethod ({ cls := "CirculationRangeModel", name := "through", desc := "(II)I" } : Jvm.MethodName)) ∈ lw_all := lw_g (lw_at lw_m0 218 rfl) rfl
theorem q234 : (Jvm.Cond.selects "CirculationRangeModel" ({ cls := "CirculationRangeModel", name := "through", desc := "(II)I" } : Jvm.MethodName) ({ cls := "CirculationRangeModel", name := "through", desc := "(II)I" } : Jvm.MethodName)) ∈ lw_all := lw_g (lw_at lw_m0 219 rfl) rfl
theorem q235 : (Jvm.Cond.code ({ cls := "CirculationRangeModel", name := "through", desc := "(II)I" } : Jvm.MethodName) prog_3_method_17_code (4 : Nat) (Option.some Jvm.ClassFile.FieldType.int)) ∈ lw_all := lw_g (lw_at lw_m0 220 rfl) rfl
theorem q237 : (Jvm.Cond.instanceMethod ({ cls := "CirculationRangeModel", name := "arcs", desc := "()I" } : Jvm.MethodName)) ∈ lw_all := lw_g (lw_at lw_m0 222 rfl) rfl
theorem q238 : (Jvm.Cond.selects "CirculationRangeModel" ({ cls := "CirculationRangeModel", name := "arcs", desc := "()I" } : Jvm.MethodName) ({ cls := "CirculationRangeModel", name := "arcs", desc := "()I" } : Jvm.MethodName)) ∈ lw_all := lw_g (lw_at lw_m0 223 rfl) rfl
theorem q239 : (Jvm.Cond.code ({ cls := "CirculationRangeModel", name := "arcs", desc := "()I" } : Jvm.MethodName) prog_3_method_18_code (1 : Nat) (Option.some Jvm.ClassFile.FieldType.int)) ∈ lw_all := lw_g (lw_at lw_m0 224 rfl) rfl
theorem in_X1 : ∀ w ∈ wsX10, w ∈ lw_all := lw_in wsX10 [161, 163, 165, 167, 169] (by decide +kernel) (by decide +kernel)
end
section
/-! java/lang/Object -/
set_option maxRecDepth 100000
def RJ0 : String := "java/lang/Object"
abbrev cJ0_init : ByteArray := object_method_1_code
def yJ0_init : MethodName := ⟨RJ0, "<init>", "()V"⟩
theorem dJ0_init_0 : decode cJ0_init 0 = .ok (.return_, 1) := by decide +kernel
theorem q24 : (Jvm.Cond.instanceMethod ({ cls := "java/lang/Object", name := "<init>", desc := "()V" } : Jvm.MethodName)) ∈ lw_all := lw_g (lw_at lw_m0 9 rfl) rfl
theorem q25 : (Jvm.Cond.code ({ cls := "java/lang/Object", name := "<init>", desc := "()V" } : Jvm.MethodName) object_method_1_code (1 : Nat) (Option.none : Option Jvm.ClassFile.FieldType)) ∈ lw_all := lw_g (lw_at lw_m0 10 rfl) rfl
theorem q15 : (Jvm.Cond.initialized "CirculationRangeLaw") ∈ lw_all := lw_g (lw_at lw_m0 0 rfl) rfl
set_option maxRecDepth 100000
theorem q18 : (Jvm.Cond.classLink "CirculationRangeLaw" (7 : Nat) "CirculationRange") ∈ lw_all := lw_g (lw_at lw_m0 3 rfl) rfl
theorem q20 : (Jvm.Cond.methodLink "CirculationRangeLaw" (9 : Nat) ({ cls := "CirculationRange", name := "<init>", desc := "()V" } : Jvm.MethodName)) ∈ lw_all := lw_g (lw_at lw_m0 5 rfl) rfl
theorem q67 : (Jvm.Cond.methodLink "CirculationRangeLaw" (13 : Nat) ({ cls := "CirculationRange", name := "arc", desc := "(III)I" } : Jvm.MethodName)) ∈ lw_all := lw_g (lw_at lw_m0 52 rfl) rfl
theorem q74 : (Jvm.Cond.methodLink "CirculationRangeLaw" (18 : Nat) ({ cls := "CirculationRange", name := "bounds", desc := "(III)I" } : Jvm.MethodName)) ∈ lw_all := lw_g (lw_at lw_m0 59 rfl) rfl
theorem q82 : (Jvm.Cond.methodLink "CirculationRangeLaw" (22 : Nat) ({ cls := "CirculationRange", name := "reverse", desc := "(I)I" } : Jvm.MethodName)) ∈ lw_all := lw_g (lw_at lw_m0 67 rfl) rfl
theorem q86 : (Jvm.Cond.methodLink "CirculationRangeLaw" (27 : Nat) ({ cls := "CirculationRange", name := "dropLast", desc := "()I" } : Jvm.MethodName)) ∈ lw_all := lw_g (lw_at lw_m0 71 rfl) rfl
theorem q90 : (Jvm.Cond.methodLink "CirculationRangeLaw" (32 : Nat) ({ cls := "CirculationRange", name := "possible", desc := "()Z" } : Jvm.MethodName)) ∈ lw_all := lw_g (lw_at lw_m0 75 rfl) rfl
theorem q126 : (Jvm.Cond.methodLink "CirculationRangeLaw" (37 : Nat) ({ cls := "CirculationRange", name := "lack", desc := "()I" } : Jvm.MethodName)) ∈ lw_all := lw_g (lw_at lw_m0 111 rfl) rfl
theorem q130 : (Jvm.Cond.methodLink "CirculationRangeLaw" (41 : Nat) ({ cls := "CirculationRange", name := "lackingSet", desc := "()I" } : Jvm.MethodName)) ∈ lw_all := lw_g (lw_at lw_m0 115 rfl) rfl
theorem q134 : (Jvm.Cond.methodLink "CirculationRangeLaw" (45 : Nat) ({ cls := "CirculationRange", name := "least", desc := "(I)I" } : Jvm.MethodName)) ∈ lw_all := lw_g (lw_at lw_m0 119 rfl) rfl
theorem q138 : (Jvm.Cond.methodLink "CirculationRangeLaw" (49 : Nat) ({ cls := "CirculationRange", name := "most", desc := "(I)I" } : Jvm.MethodName)) ∈ lw_all := lw_g (lw_at lw_m0 123 rfl) rfl
theorem q142 : (Jvm.Cond.methodLink "CirculationRangeLaw" (53 : Nat) ({ cls := "CirculationRange", name := "through", desc := "(II)I" } : Jvm.MethodName)) ∈ lw_all := lw_g (lw_at lw_m0 127 rfl) rfl
theorem q146 : (Jvm.Cond.methodLink "CirculationRangeLaw" (58 : Nat) ({ cls := "CirculationRange", name := "arcs", desc := "()I" } : Jvm.MethodName)) ∈ lw_all := lw_g (lw_at lw_m0 131 rfl) rfl
theorem q150 : (Jvm.Cond.classLink "CirculationRangeLaw" (10 : Nat) "CirculationRangeModel") ∈ lw_all := lw_g (lw_at lw_m0 135 rfl) rfl
theorem q152 : (Jvm.Cond.methodLink "CirculationRangeLaw" (12 : Nat) ({ cls := "CirculationRangeModel", name := "<init>", desc := "()V" } : Jvm.MethodName)) ∈ lw_all := lw_g (lw_at lw_m0 137 rfl) rfl
theorem q172 : (Jvm.Cond.methodLink "CirculationRangeLaw" (17 : Nat) ({ cls := "CirculationRangeModel", name := "arc", desc := "(III)I" } : Jvm.MethodName)) ∈ lw_all := lw_g (lw_at lw_m0 157 rfl) rfl
theorem q184 : (Jvm.Cond.methodLink "CirculationRangeLaw" (21 : Nat) ({ cls := "CirculationRangeModel", name := "bounds", desc := "(III)I" } : Jvm.MethodName)) ∈ lw_all := lw_g (lw_at lw_m0 169 rfl) rfl
theorem q192 : (Jvm.Cond.methodLink "CirculationRangeLaw" (26 : Nat) ({ cls := "CirculationRangeModel", name := "reverse", desc := "(I)I" } : Jvm.MethodName)) ∈ lw_all := lw_g (lw_at lw_m0 177 rfl) rfl
theorem q196 : (Jvm.Cond.methodLink "CirculationRangeLaw" (31 : Nat) ({ cls := "CirculationRangeModel", name := "dropLast", desc := "()I" } : Jvm.MethodName)) ∈ lw_all := lw_g (lw_at lw_m0 181 rfl) rfl
theorem q200 : (Jvm.Cond.methodLink "CirculationRangeLaw" (36 : Nat) ({ cls := "CirculationRangeModel", name := "possible", desc := "()Z" } : Jvm.MethodName)) ∈ lw_all := lw_g (lw_at lw_m0 185 rfl) rfl
theorem q212 : (Jvm.Cond.methodLink "CirculationRangeLaw" (40 : Nat) ({ cls := "CirculationRangeModel", name := "lack", desc := "()I" } : Jvm.MethodName)) ∈ lw_all := lw_g (lw_at lw_m0 197 rfl) rfl
theorem q216 : (Jvm.Cond.methodLink "CirculationRangeLaw" (44 : Nat) ({ cls := "CirculationRangeModel", name := "lackingSet", desc := "()I" } : Jvm.MethodName)) ∈ lw_all := lw_g (lw_at lw_m0 201 rfl) rfl
theorem q220 : (Jvm.Cond.methodLink "CirculationRangeLaw" (48 : Nat) ({ cls := "CirculationRangeModel", name := "least", desc := "(I)I" } : Jvm.MethodName)) ∈ lw_all := lw_g (lw_at lw_m0 205 rfl) rfl
theorem q228 : (Jvm.Cond.methodLink "CirculationRangeLaw" (52 : Nat) ({ cls := "CirculationRangeModel", name := "most", desc := "(I)I" } : Jvm.MethodName)) ∈ lw_all := lw_g (lw_at lw_m0 213 rfl) rfl
theorem q232 : (Jvm.Cond.methodLink "CirculationRangeLaw" (57 : Nat) ({ cls := "CirculationRangeModel", name := "through", desc := "(II)I" } : Jvm.MethodName)) ∈ lw_all := lw_g (lw_at lw_m0 217 rfl) rfl
theorem q236 : (Jvm.Cond.methodLink "CirculationRangeLaw" (61 : Nat) ({ cls := "CirculationRangeModel", name := "arcs", desc := "()I" } : Jvm.MethodName)) ∈ lw_all := lw_g (lw_at lw_m0 221 rfl) rfl
theorem q66 : (Jvm.Cond.arrayClass Jvm.ClassFile.FieldType.int) ∈ lw_all := lw_g (lw_at lw_m0 51 rfl) rfl
set_option maxRecDepth 100000
end
section
/-! the law's own entry -/
set_option maxRecDepth 100000
abbrev cL_law : ByteArray := code
theorem dL_law_0 : decode cL_law 0 = .ok (.new 7, 3) := by decide +kernel
theorem dL_law_3 : decode cL_law 3 = .ok (.dup, 1) := by decide +kernel
theorem dL_law_4 : decode cL_law 4 = .ok (.invokespecial 9, 3) := by decide +kernel
theorem dL_law_7 : decode cL_law 7 = .ok (.astore_n 1, 1) := by decide +kernel
theorem dL_law_8 : decode cL_law 8 = .ok (.new 10, 3) := by decide +kernel
theorem dL_law_11 : decode cL_law 11 = .ok (.dup, 1) := by decide +kernel
theorem dL_law_12 : decode cL_law 12 = .ok (.invokespecial 12, 3) := by decide +kernel
theorem dL_law_15 : decode cL_law 15 = .ok (.astore_n 2, 1) := by decide +kernel
theorem dL_law_16 : decode cL_law 16 = .ok (.iconst 0, 1) := by decide +kernel
theorem dL_law_17 : decode cL_law 17 = .ok (.istore_n 3, 1) := by decide +kernel
theorem dL_law_18 : decode cL_law 18 = .ok (.iload_n 3, 1) := by decide +kernel
theorem dL_law_19 : decode cL_law 19 = .ok (.aload_n 0, 1) := by decide +kernel
theorem dL_law_20 : decode cL_law 20 = .ok (.arraylength, 1) := by decide +kernel
theorem dL_law_21 : decode cL_law 21 = .ok (.iconst 4, 1) := by decide +kernel
theorem dL_law_22 : decode cL_law 22 = .ok (.isub, 1) := by decide +kernel
theorem dL_law_23 : decode cL_law 23 = .ok (.if_icmp .gt 328, 3) := by decide +kernel
theorem dL_law_26 : decode cL_law 26 = .ok (.aload_n 0, 1) := by decide +kernel
theorem dL_law_27 : decode cL_law 27 = .ok (.iload_n 3, 1) := by decide +kernel
theorem dL_law_28 : decode cL_law 28 = .ok (.iaload, 1) := by decide +kernel
theorem dL_law_29 : decode cL_law 29 = .ok (.bipush 15, 2) := by decide +kernel
theorem dL_law_31 : decode cL_law 31 = .ok (.iand, 1) := by decide +kernel
theorem dL_law_32 : decode cL_law 32 = .ok (.tableswitch 313 0 10 #[60, 103, 146, 169, 182, 195, 208, 221, 244, 267, 300], 60) := by decide +kernel
theorem dL_law_92 : decode cL_law 92 = .ok (.aload_n 1, 1) := by decide +kernel
theorem dL_law_93 : decode cL_law 93 = .ok (.aload_n 0, 1) := by decide +kernel
theorem dL_law_94 : decode cL_law 94 = .ok (.iload_n 3, 1) := by decide +kernel
theorem dL_law_95 : decode cL_law 95 = .ok (.iconst 1, 1) := by decide +kernel
theorem dL_law_96 : decode cL_law 96 = .ok (.iadd, 1) := by decide +kernel
theorem dL_law_97 : decode cL_law 97 = .ok (.iaload, 1) := by decide +kernel
theorem dL_law_98 : decode cL_law 98 = .ok (.aload_n 0, 1) := by decide +kernel
theorem dL_law_99 : decode cL_law 99 = .ok (.iload_n 3, 1) := by decide +kernel
theorem dL_law_100 : decode cL_law 100 = .ok (.iconst 2, 1) := by decide +kernel
theorem dL_law_101 : decode cL_law 101 = .ok (.iadd, 1) := by decide +kernel
theorem dL_law_102 : decode cL_law 102 = .ok (.iaload, 1) := by decide +kernel
theorem dL_law_103 : decode cL_law 103 = .ok (.aload_n 0, 1) := by decide +kernel
theorem dL_law_104 : decode cL_law 104 = .ok (.iload_n 3, 1) := by decide +kernel
theorem dL_law_105 : decode cL_law 105 = .ok (.iconst 3, 1) := by decide +kernel
theorem dL_law_106 : decode cL_law 106 = .ok (.iadd, 1) := by decide +kernel
theorem dL_law_107 : decode cL_law 107 = .ok (.iaload, 1) := by decide +kernel
theorem dL_law_108 : decode cL_law 108 = .ok (.invokevirtual 13, 3) := by decide +kernel
theorem dL_law_111 : decode cL_law 111 = .ok (.aload_n 2, 1) := by decide +kernel
theorem dL_law_112 : decode cL_law 112 = .ok (.aload_n 0, 1) := by decide +kernel
theorem dL_law_113 : decode cL_law 113 = .ok (.iload_n 3, 1) := by decide +kernel
theorem dL_law_114 : decode cL_law 114 = .ok (.iconst 1, 1) := by decide +kernel
theorem dL_law_115 : decode cL_law 115 = .ok (.iadd, 1) := by decide +kernel
theorem dL_law_116 : decode cL_law 116 = .ok (.iaload, 1) := by decide +kernel
theorem dL_law_117 : decode cL_law 117 = .ok (.aload_n 0, 1) := by decide +kernel
theorem dL_law_118 : decode cL_law 118 = .ok (.iload_n 3, 1) := by decide +kernel
theorem dL_law_119 : decode cL_law 119 = .ok (.iconst 2, 1) := by decide +kernel
theorem dL_law_120 : decode cL_law 120 = .ok (.iadd, 1) := by decide +kernel
theorem dL_law_121 : decode cL_law 121 = .ok (.iaload, 1) := by decide +kernel
theorem dL_law_122 : decode cL_law 122 = .ok (.aload_n 0, 1) := by decide +kernel
theorem dL_law_123 : decode cL_law 123 = .ok (.iload_n 3, 1) := by decide +kernel
theorem dL_law_124 : decode cL_law 124 = .ok (.iconst 3, 1) := by decide +kernel
theorem dL_law_125 : decode cL_law 125 = .ok (.iadd, 1) := by decide +kernel
theorem dL_law_126 : decode cL_law 126 = .ok (.iaload, 1) := by decide +kernel
theorem dL_law_127 : decode cL_law 127 = .ok (.invokevirtual 17, 3) := by decide +kernel
theorem dL_law_130 : decode cL_law 130 = .ok (.if_icmp .eq 215, 3) := by decide +kernel
theorem dL_law_133 : decode cL_law 133 = .ok (.iconst 0, 1) := by decide +kernel
theorem dL_law_134 : decode cL_law 134 = .ok (.ireturn, 1) := by decide +kernel
theorem dL_law_135 : decode cL_law 135 = .ok (.aload_n 1, 1) := by decide +kernel
theorem dL_law_136 : decode cL_law 136 = .ok (.aload_n 0, 1) := by decide +kernel
theorem dL_law_137 : decode cL_law 137 = .ok (.iload_n 3, 1) := by decide +kernel
theorem dL_law_138 : decode cL_law 138 = .ok (.iconst 1, 1) := by decide +kernel
theorem dL_law_139 : decode cL_law 139 = .ok (.iadd, 1) := by decide +kernel
theorem dL_law_140 : decode cL_law 140 = .ok (.iaload, 1) := by decide +kernel
theorem dL_law_141 : decode cL_law 141 = .ok (.aload_n 0, 1) := by decide +kernel
theorem dL_law_142 : decode cL_law 142 = .ok (.iload_n 3, 1) := by decide +kernel
theorem dL_law_143 : decode cL_law 143 = .ok (.iconst 2, 1) := by decide +kernel
theorem dL_law_144 : decode cL_law 144 = .ok (.iadd, 1) := by decide +kernel
theorem dL_law_145 : decode cL_law 145 = .ok (.iaload, 1) := by decide +kernel
theorem dL_law_146 : decode cL_law 146 = .ok (.aload_n 0, 1) := by decide +kernel
theorem dL_law_147 : decode cL_law 147 = .ok (.iload_n 3, 1) := by decide +kernel
theorem dL_law_148 : decode cL_law 148 = .ok (.iconst 3, 1) := by decide +kernel
theorem dL_law_149 : decode cL_law 149 = .ok (.iadd, 1) := by decide +kernel
theorem dL_law_150 : decode cL_law 150 = .ok (.iaload, 1) := by decide +kernel
theorem dL_law_151 : decode cL_law 151 = .ok (.invokevirtual 18, 3) := by decide +kernel
theorem dL_law_154 : decode cL_law 154 = .ok (.aload_n 2, 1) := by decide +kernel
theorem dL_law_155 : decode cL_law 155 = .ok (.aload_n 0, 1) := by decide +kernel
theorem dL_law_156 : decode cL_law 156 = .ok (.iload_n 3, 1) := by decide +kernel
theorem dL_law_157 : decode cL_law 157 = .ok (.iconst 1, 1) := by decide +kernel
theorem dL_law_158 : decode cL_law 158 = .ok (.iadd, 1) := by decide +kernel
theorem dL_law_159 : decode cL_law 159 = .ok (.iaload, 1) := by decide +kernel
theorem dL_law_160 : decode cL_law 160 = .ok (.aload_n 0, 1) := by decide +kernel
theorem dL_law_161 : decode cL_law 161 = .ok (.iload_n 3, 1) := by decide +kernel
theorem dL_law_162 : decode cL_law 162 = .ok (.iconst 2, 1) := by decide +kernel
theorem dL_law_163 : decode cL_law 163 = .ok (.iadd, 1) := by decide +kernel
theorem dL_law_164 : decode cL_law 164 = .ok (.iaload, 1) := by decide +kernel
theorem dL_law_165 : decode cL_law 165 = .ok (.aload_n 0, 1) := by decide +kernel
theorem dL_law_166 : decode cL_law 166 = .ok (.iload_n 3, 1) := by decide +kernel
theorem dL_law_167 : decode cL_law 167 = .ok (.iconst 3, 1) := by decide +kernel
theorem dL_law_168 : decode cL_law 168 = .ok (.iadd, 1) := by decide +kernel
theorem dL_law_169 : decode cL_law 169 = .ok (.iaload, 1) := by decide +kernel
theorem dL_law_170 : decode cL_law 170 = .ok (.invokevirtual 21, 3) := by decide +kernel
theorem dL_law_173 : decode cL_law 173 = .ok (.if_icmp .eq 172, 3) := by decide +kernel
theorem dL_law_176 : decode cL_law 176 = .ok (.iconst 0, 1) := by decide +kernel
theorem dL_law_177 : decode cL_law 177 = .ok (.ireturn, 1) := by decide +kernel
theorem dL_law_178 : decode cL_law 178 = .ok (.aload_n 1, 1) := by decide +kernel
theorem dL_law_179 : decode cL_law 179 = .ok (.aload_n 0, 1) := by decide +kernel
theorem dL_law_180 : decode cL_law 180 = .ok (.iload_n 3, 1) := by decide +kernel
theorem dL_law_181 : decode cL_law 181 = .ok (.iconst 1, 1) := by decide +kernel
theorem dL_law_182 : decode cL_law 182 = .ok (.iadd, 1) := by decide +kernel
theorem dL_law_183 : decode cL_law 183 = .ok (.iaload, 1) := by decide +kernel
theorem dL_law_184 : decode cL_law 184 = .ok (.invokevirtual 22, 3) := by decide +kernel
theorem dL_law_187 : decode cL_law 187 = .ok (.aload_n 2, 1) := by decide +kernel
theorem dL_law_188 : decode cL_law 188 = .ok (.aload_n 0, 1) := by decide +kernel
theorem dL_law_189 : decode cL_law 189 = .ok (.iload_n 3, 1) := by decide +kernel
theorem dL_law_190 : decode cL_law 190 = .ok (.iconst 1, 1) := by decide +kernel
theorem dL_law_191 : decode cL_law 191 = .ok (.iadd, 1) := by decide +kernel
theorem dL_law_192 : decode cL_law 192 = .ok (.iaload, 1) := by decide +kernel
theorem dL_law_193 : decode cL_law 193 = .ok (.invokevirtual 26, 3) := by decide +kernel
theorem dL_law_196 : decode cL_law 196 = .ok (.if_icmp .eq 149, 3) := by decide +kernel
theorem dL_law_199 : decode cL_law 199 = .ok (.iconst 0, 1) := by decide +kernel
theorem dL_law_200 : decode cL_law 200 = .ok (.ireturn, 1) := by decide +kernel
theorem dL_law_201 : decode cL_law 201 = .ok (.aload_n 1, 1) := by decide +kernel
theorem dL_law_202 : decode cL_law 202 = .ok (.invokevirtual 27, 3) := by decide +kernel
theorem dL_law_205 : decode cL_law 205 = .ok (.aload_n 2, 1) := by decide +kernel
theorem dL_law_206 : decode cL_law 206 = .ok (.invokevirtual 31, 3) := by decide +kernel
theorem dL_law_209 : decode cL_law 209 = .ok (.if_icmp .eq 136, 3) := by decide +kernel
theorem dL_law_212 : decode cL_law 212 = .ok (.iconst 0, 1) := by decide +kernel
theorem dL_law_213 : decode cL_law 213 = .ok (.ireturn, 1) := by decide +kernel
theorem dL_law_214 : decode cL_law 214 = .ok (.aload_n 1, 1) := by decide +kernel
theorem dL_law_215 : decode cL_law 215 = .ok (.invokevirtual 32, 3) := by decide +kernel
theorem dL_law_218 : decode cL_law 218 = .ok (.aload_n 2, 1) := by decide +kernel
theorem dL_law_219 : decode cL_law 219 = .ok (.invokevirtual 36, 3) := by decide +kernel
theorem dL_law_222 : decode cL_law 222 = .ok (.if_icmp .eq 123, 3) := by decide +kernel
theorem dL_law_225 : decode cL_law 225 = .ok (.iconst 0, 1) := by decide +kernel
theorem dL_law_226 : decode cL_law 226 = .ok (.ireturn, 1) := by decide +kernel
theorem dL_law_227 : decode cL_law 227 = .ok (.aload_n 1, 1) := by decide +kernel
theorem dL_law_228 : decode cL_law 228 = .ok (.invokevirtual 37, 3) := by decide +kernel
theorem dL_law_231 : decode cL_law 231 = .ok (.aload_n 2, 1) := by decide +kernel
theorem dL_law_232 : decode cL_law 232 = .ok (.invokevirtual 40, 3) := by decide +kernel
theorem dL_law_235 : decode cL_law 235 = .ok (.if_icmp .eq 110, 3) := by decide +kernel
theorem dL_law_238 : decode cL_law 238 = .ok (.iconst 0, 1) := by decide +kernel
theorem dL_law_239 : decode cL_law 239 = .ok (.ireturn, 1) := by decide +kernel
theorem dL_law_240 : decode cL_law 240 = .ok (.aload_n 1, 1) := by decide +kernel
theorem dL_law_241 : decode cL_law 241 = .ok (.invokevirtual 41, 3) := by decide +kernel
theorem dL_law_244 : decode cL_law 244 = .ok (.aload_n 2, 1) := by decide +kernel
theorem dL_law_245 : decode cL_law 245 = .ok (.invokevirtual 44, 3) := by decide +kernel
theorem dL_law_248 : decode cL_law 248 = .ok (.if_icmp .eq 97, 3) := by decide +kernel
theorem dL_law_251 : decode cL_law 251 = .ok (.iconst 0, 1) := by decide +kernel
theorem dL_law_252 : decode cL_law 252 = .ok (.ireturn, 1) := by decide +kernel
theorem dL_law_253 : decode cL_law 253 = .ok (.aload_n 1, 1) := by decide +kernel
theorem dL_law_254 : decode cL_law 254 = .ok (.aload_n 0, 1) := by decide +kernel
theorem dL_law_255 : decode cL_law 255 = .ok (.iload_n 3, 1) := by decide +kernel
theorem dL_law_256 : decode cL_law 256 = .ok (.iconst 1, 1) := by decide +kernel
theorem dL_law_257 : decode cL_law 257 = .ok (.iadd, 1) := by decide +kernel
theorem dL_law_258 : decode cL_law 258 = .ok (.iaload, 1) := by decide +kernel
theorem dL_law_259 : decode cL_law 259 = .ok (.invokevirtual 45, 3) := by decide +kernel
theorem dL_law_262 : decode cL_law 262 = .ok (.aload_n 2, 1) := by decide +kernel
theorem dL_law_263 : decode cL_law 263 = .ok (.aload_n 0, 1) := by decide +kernel
theorem dL_law_264 : decode cL_law 264 = .ok (.iload_n 3, 1) := by decide +kernel
theorem dL_law_265 : decode cL_law 265 = .ok (.iconst 1, 1) := by decide +kernel
theorem dL_law_266 : decode cL_law 266 = .ok (.iadd, 1) := by decide +kernel
theorem dL_law_267 : decode cL_law 267 = .ok (.iaload, 1) := by decide +kernel
theorem dL_law_268 : decode cL_law 268 = .ok (.invokevirtual 48, 3) := by decide +kernel
theorem dL_law_271 : decode cL_law 271 = .ok (.if_icmp .eq 74, 3) := by decide +kernel
theorem dL_law_274 : decode cL_law 274 = .ok (.iconst 0, 1) := by decide +kernel
theorem dL_law_275 : decode cL_law 275 = .ok (.ireturn, 1) := by decide +kernel
theorem dL_law_276 : decode cL_law 276 = .ok (.aload_n 1, 1) := by decide +kernel
theorem dL_law_277 : decode cL_law 277 = .ok (.aload_n 0, 1) := by decide +kernel
theorem dL_law_278 : decode cL_law 278 = .ok (.iload_n 3, 1) := by decide +kernel
theorem dL_law_279 : decode cL_law 279 = .ok (.iconst 1, 1) := by decide +kernel
theorem dL_law_280 : decode cL_law 280 = .ok (.iadd, 1) := by decide +kernel
theorem dL_law_281 : decode cL_law 281 = .ok (.iaload, 1) := by decide +kernel
theorem dL_law_282 : decode cL_law 282 = .ok (.invokevirtual 49, 3) := by decide +kernel
theorem dL_law_285 : decode cL_law 285 = .ok (.aload_n 2, 1) := by decide +kernel
theorem dL_law_286 : decode cL_law 286 = .ok (.aload_n 0, 1) := by decide +kernel
theorem dL_law_287 : decode cL_law 287 = .ok (.iload_n 3, 1) := by decide +kernel
theorem dL_law_288 : decode cL_law 288 = .ok (.iconst 1, 1) := by decide +kernel
theorem dL_law_289 : decode cL_law 289 = .ok (.iadd, 1) := by decide +kernel
theorem dL_law_290 : decode cL_law 290 = .ok (.iaload, 1) := by decide +kernel
theorem dL_law_291 : decode cL_law 291 = .ok (.invokevirtual 52, 3) := by decide +kernel
theorem dL_law_294 : decode cL_law 294 = .ok (.if_icmp .eq 51, 3) := by decide +kernel
theorem dL_law_297 : decode cL_law 297 = .ok (.iconst 0, 1) := by decide +kernel
theorem dL_law_298 : decode cL_law 298 = .ok (.ireturn, 1) := by decide +kernel
theorem dL_law_299 : decode cL_law 299 = .ok (.aload_n 1, 1) := by decide +kernel
theorem dL_law_300 : decode cL_law 300 = .ok (.aload_n 0, 1) := by decide +kernel
theorem dL_law_301 : decode cL_law 301 = .ok (.iload_n 3, 1) := by decide +kernel
theorem dL_law_302 : decode cL_law 302 = .ok (.iconst 1, 1) := by decide +kernel
theorem dL_law_303 : decode cL_law 303 = .ok (.iadd, 1) := by decide +kernel
theorem dL_law_304 : decode cL_law 304 = .ok (.iaload, 1) := by decide +kernel
theorem dL_law_305 : decode cL_law 305 = .ok (.aload_n 0, 1) := by decide +kernel
theorem dL_law_306 : decode cL_law 306 = .ok (.iload_n 3, 1) := by decide +kernel
theorem dL_law_307 : decode cL_law 307 = .ok (.iconst 2, 1) := by decide +kernel
theorem dL_law_308 : decode cL_law 308 = .ok (.iadd, 1) := by decide +kernel
theorem dL_law_309 : decode cL_law 309 = .ok (.iaload, 1) := by decide +kernel
theorem dL_law_310 : decode cL_law 310 = .ok (.invokevirtual 53, 3) := by decide +kernel
theorem dL_law_313 : decode cL_law 313 = .ok (.aload_n 2, 1) := by decide +kernel
theorem dL_law_314 : decode cL_law 314 = .ok (.aload_n 0, 1) := by decide +kernel
theorem dL_law_315 : decode cL_law 315 = .ok (.iload_n 3, 1) := by decide +kernel
theorem dL_law_316 : decode cL_law 316 = .ok (.iconst 1, 1) := by decide +kernel
theorem dL_law_317 : decode cL_law 317 = .ok (.iadd, 1) := by decide +kernel
theorem dL_law_318 : decode cL_law 318 = .ok (.iaload, 1) := by decide +kernel
theorem dL_law_319 : decode cL_law 319 = .ok (.aload_n 0, 1) := by decide +kernel
theorem dL_law_320 : decode cL_law 320 = .ok (.iload_n 3, 1) := by decide +kernel
theorem dL_law_321 : decode cL_law 321 = .ok (.iconst 2, 1) := by decide +kernel
theorem dL_law_322 : decode cL_law 322 = .ok (.iadd, 1) := by decide +kernel
theorem dL_law_323 : decode cL_law 323 = .ok (.iaload, 1) := by decide +kernel
theorem dL_law_324 : decode cL_law 324 = .ok (.invokevirtual 57, 3) := by decide +kernel
theorem dL_law_327 : decode cL_law 327 = .ok (.if_icmp .eq 18, 3) := by decide +kernel
theorem dL_law_330 : decode cL_law 330 = .ok (.iconst 0, 1) := by decide +kernel
theorem dL_law_331 : decode cL_law 331 = .ok (.ireturn, 1) := by decide +kernel
theorem dL_law_332 : decode cL_law 332 = .ok (.aload_n 1, 1) := by decide +kernel
theorem dL_law_333 : decode cL_law 333 = .ok (.invokevirtual 58, 3) := by decide +kernel
theorem dL_law_336 : decode cL_law 336 = .ok (.aload_n 2, 1) := by decide +kernel
theorem dL_law_337 : decode cL_law 337 = .ok (.invokevirtual 61, 3) := by decide +kernel
theorem dL_law_340 : decode cL_law 340 = .ok (.if_icmp .eq 5, 3) := by decide +kernel
theorem dL_law_343 : decode cL_law 343 = .ok (.iconst 0, 1) := by decide +kernel
theorem dL_law_344 : decode cL_law 344 = .ok (.ireturn, 1) := by decide +kernel
theorem dL_law_345 : decode cL_law 345 = .ok (.iinc 3 4, 3) := by decide +kernel
theorem dL_law_348 : decode cL_law 348 = .ok (.goto (-330), 3) := by decide +kernel
theorem dL_law_351 : decode cL_law 351 = .ok (.iconst 1, 1) := by decide +kernel
theorem dL_law_352 : decode cL_law 352 = .ok (.ireturn, 1) := by decide +kernel
end
section
/-! plain facts on numbers and arrays, to paste: each family by itself; over the kit's rows on nI and upd -/
/-! ===== order of ints, in all its forms, and through longs ===== -/
theorem fa_lt (a b : Int32) : a < b ↔ a.toInt < b.toInt := Int32.lt_iff_toInt_lt
theorem fa_le (a b : Int32) : a ≤ b ↔ a.toInt ≤ b.toInt := Int32.le_iff_toInt_le
theorem fa_eq (a b : Int32) : a = b ↔ a.toInt = b.toInt := Int32.toInt_inj.symm
theorem fa_lt64 (a b : Int64) : a < b ↔ a.toInt < b.toInt := Int64.lt_iff_toInt_lt
theorem fa_le64 (a b : Int64) : a ≤ b ↔ a.toInt ≤ b.toInt := Int64.le_iff_toInt_le
theorem fa_eq64 (a b : Int64) : a = b ↔ a.toInt = b.toInt := Int64.toInt_inj.symm
/-- a comparison of two ints taken as longs -/
theorem fa_wide_lt (a b : Int32) : a.toInt64 < b.toInt64 ↔ a < b := by rw [fa_lt64, fa_lt, Int32.toInt_toInt64, Int32.toInt_toInt64]
theorem fa_wide_le (a b : Int32) : a.toInt64 ≤ b.toInt64 ↔ a ≤ b := by rw [fa_le64, fa_le, Int32.toInt_toInt64, Int32.toInt_toInt64]
theorem fa_wide_eq (a b : Int32) : a.toInt64 = b.toInt64 ↔ a = b := by rw [fa_eq64, fa_eq, Int32.toInt_toInt64, Int32.toInt_toInt64]
/-- one strict comparison gives all the others -/
theorem fa_of_lt {a b : Int32} (h : a < b) : a ≤ b ∧ ¬ b ≤ a ∧ ¬ b < a ∧ a ≠ b ∧ b ≠ a := by
  rw [fa_lt] at h
  refine ⟨?_, ?_, ?_, ?_, ?_⟩
  · rw [fa_le]; omega
  · rw [fa_le]; omega
  · rw [fa_lt]; omega
  · intro e; rw [fa_eq] at e; omega
  · intro e; rw [fa_eq] at e; omega
theorem fa_of_nlt {a b : Int32} (h : ¬ a < b) : b ≤ a := by
  rw [fa_lt] at h
  rw [fa_le]
  omega
theorem fa_of_nle {a b : Int32} (h : ¬ a ≤ b) : b < a := by
  rw [fa_le] at h
  rw [fa_lt]
  omega
theorem fa_le_ne {a b : Int32} (h : a ≤ b) (h2 : a ≠ b) : a < b := by
  rw [fa_le] at h
  rw [fa_lt]
  have h3 : a.toInt ≠ b.toInt := fun e => h2 ((fa_eq a b).mpr e)
  omega
theorem fa_three (a b : Int32) : a < b ∨ a = b ∨ b < a := by
  rw [fa_lt, fa_lt, fa_eq]
  omega
theorem fa_trans {a b c : Int32} (h : a < b) (h2 : b ≤ c) : a < c := by
  rw [fa_lt] at *
  rw [fa_le] at h2
  omega
/-! ===== small literals as numbers ===== -/
theorem fa_lit (n : Nat) : (OfNat.ofNat n : Int32) = nI n := rfl
theorem fa_litL (n : Nat) : (OfNat.ofNat n : Int64) = lN n := rfl
/-! ===== bits of a number: 'or', masks, one bit ===== -/
theorem fa_and (a b : Nat) : nI a &&& nI b = nI (a &&& b) := by
  apply Int32.toBitVec_inj.1
  show BitVec.ofNat 32 a &&& BitVec.ofNat 32 b = BitVec.ofNat 32 (a &&& b)
  apply BitVec.eq_of_getLsbD_eq
  intro i hi
  simp [hi]
theorem fa_or (a b : Nat) : nI a ||| nI b = nI (a ||| b) := by
  apply Int32.toBitVec_inj.1
  show BitVec.ofNat 32 a ||| BitVec.ofNat 32 b = BitVec.ofNat 32 (a ||| b)
  apply BitVec.eq_of_getLsbD_eq
  intro i hi
  simp [hi]
/-- a remainder by a power of two, as a mask -/
theorem fa_mask (n k : Nat) : nI n &&& nI (2 ^ k - 1) = nI (n % 2 ^ k) := by rw [fa_and, Nat.and_two_pow_sub_one_eq_mod]
/-- 'or' of a high part and a low one that don't meet is their sum -/
theorem fa_or_sum {a k : Nat} (b : Nat) (h : a < 2 ^ k) : nI (2 ^ k * b) ||| nI a = nI (2 ^ k * b + a) := by rw [fa_or, Nat.two_pow_add_eq_or_of_lt h]
/-- one bit, by 'and' with a power of two -/
theorem fa_bit {n j : Nat} (hj : j < 31) : nI n &&& nI (2 ^ j) = 0 ↔ n.testBit j = false := by
  have h2 : (2 : Nat) ^ j < 2 ^ 31 := Nat.pow_lt_pow_right (by decide) hj
  have hle : n &&& 2 ^ j ≤ 2 ^ j := Nat.and_le_right
  have e : n &&& 2 ^ j = 0 ↔ n.testBit j = false := by
    constructor
    · intro h
      have h1 : (n &&& 2 ^ j).testBit j = false := by rw [h]; simp
      rw [Nat.testBit_and] at h1
      first | simpa using h1 | simpa [Nat.testBit_two_pow_self] using h1 | simpa [Nat.testBit_two_pow] using h1
    · intro h
      apply Nat.eq_of_testBit_eq
      intro i
      rw [Nat.testBit_and]
      by_cases hi : j = i
      · subst hi; simp [h]
      · first | (simp [Nat.testBit_two_pow, hi]; done) | (simp [Nat.testBit_two_pow_of_ne hi]; done)
  rw [fa_and]
  constructor
  · intro h
    apply e.mp
    rcases Nat.eq_zero_or_pos (n &&& 2 ^ j) with z | z
    · exact z
    · exact absurd h (nI_ne0 z (Nat.lt_of_le_of_lt hle h2))
  · intro h
    rw [e.mpr h]; exact nI_0
/-- a remainder by a power of two of a number that isn't negative, as Java divides -/
theorem fa_rem {a k : Nat} (ha : a < 2 ^ 31) (hk : k < 31) : nI a - nI a / nI (2 ^ k) * nI (2 ^ k) = nI (a % 2 ^ k) := pk_rem ha (Nat.two_pow_pos k) (Nat.pow_lt_pow_right (by decide) hk)
/-! ===== cuts to a byte, a short ===== -/
theorem fa_byte_xor (x y : Int32) : (x ^^^ y).toInt8 = x.toInt8 ^^^ y.toInt8 := by
  apply Int8.toBitVec_inj.1
  apply BitVec.eq_of_getLsbD_eq
  intro i hi
  first | (simp [hi]; done) | (simp [hi, BitVec.getLsbD_setWidth, BitVec.getLsbD_signExtend]; done)
theorem fa_short_xor (x y : Int32) : (x ^^^ y).toInt16 = x.toInt16 ^^^ y.toInt16 := by
  apply Int16.toBitVec_inj.1
  apply BitVec.eq_of_getLsbD_eq
  intro i hi
  first | (simp [hi]; done) | (simp [hi, BitVec.getLsbD_setWidth, BitVec.getLsbD_signExtend]; done)
/-- the cut to a byte sees the low byte alone -/
theorem fa_byte_low (x : Int32) : (x &&& 255).toInt8 = x.toInt8 := by
  apply Int8.toBitVec_inj.1
  apply BitVec.eq_of_getLsbD_eq
  intro i hi
  have h2 : (255 : Int32).toBitVec.getLsbD i = true := by
    have : ∀ j : Fin 8, (255 : Int32).toBitVec.getLsbD j.val = true := by decide +kernel
    exact this ⟨i, hi⟩
  have h4 : (x &&& 255).toBitVec.getLsbD i = x.toBitVec.getLsbD i := by
    show (x.toBitVec &&& (255 : Int32).toBitVec).getLsbD i = _
    rw [BitVec.getLsbD_and, h2, Bool.and_true]
  have h3 : i < 32 := by omega
  first
    | (show (((x &&& 255).toBitVec).signExtend 8).getLsbD i = (x.toBitVec.signExtend 8).getLsbD i; rw [BitVec.getLsbD_signExtend, BitVec.getLsbD_signExtend, if_pos h3, if_pos h3, h4])
    | (show (((x &&& 255).toBitVec).setWidth 8).getLsbD i = (x.toBitVec.setWidth 8).getLsbD i; rw [BitVec.getLsbD_setWidth, BitVec.getLsbD_setWidth, h4])
    | (simp [hi, h3, h4]; done)
theorem fa_short_low (x : Int32) : (x &&& 65535).toInt16 = x.toInt16 := by
  apply Int16.toBitVec_inj.1
  apply BitVec.eq_of_getLsbD_eq
  intro i hi
  have h2 : (65535 : Int32).toBitVec.getLsbD i = true := by
    have : ∀ j : Fin 16, (65535 : Int32).toBitVec.getLsbD j.val = true := by decide +kernel
    exact this ⟨i, hi⟩
  have h4 : (x &&& 65535).toBitVec.getLsbD i = x.toBitVec.getLsbD i := by
    show (x.toBitVec &&& (65535 : Int32).toBitVec).getLsbD i = _
    rw [BitVec.getLsbD_and, h2, Bool.and_true]
  have h3 : i < 32 := by omega
  first
    | (show (((x &&& 65535).toBitVec).signExtend 16).getLsbD i = (x.toBitVec.signExtend 16).getLsbD i; rw [BitVec.getLsbD_signExtend, BitVec.getLsbD_signExtend, if_pos h3, if_pos h3, h4])
    | (show (((x &&& 65535).toBitVec).setWidth 16).getLsbD i = (x.toBitVec.setWidth 16).getLsbD i; rw [BitVec.getLsbD_setWidth, BitVec.getLsbD_setWidth, h4])
    | (simp [hi, h3, h4]; done)
/-- a small number is its own byte, its own short -/
theorem fa_byte_small {n : Nat} (h : n < 128) : (nI n).toInt8.toInt32 = nI n := by
  have : ∀ j : Fin 128, (nI j.val).toInt8.toInt32 = nI j.val := by decide +kernel
  exact this ⟨n, h⟩
/-! ===== absolute difference ===== -/
theorem fa_absdiff {a b : Nat} (ha : a < 2 ^ 31) (hb : b < 2 ^ 31) : (if nI a < nI b then nI b - nI a else nI a - nI b) = nI (if a < b then b - a else a - b) := by
  by_cases h : a < b
  · rw [if_pos (nI_lt h hb), if_pos h]
    exact pk_sub (Nat.le_of_lt h)
  · rw [if_neg (nI_nlt (Nat.le_of_not_lt h) ha), if_neg h]
    exact pk_sub (Nat.le_of_not_lt h)
/-! ===== an array behind i stores, a conditional store, a row copied ===== -/
/-- f where k < i, what stood there else -/
def fa_fill {α : Type} (f g : Nat → α) (i : Nat) : Nat → α := fun k => if k < i then f k else g k
theorem fa_fill_0 {α : Type} (f g : Nat → α) : fa_fill f g 0 = g := funext fun k => if_neg (Nat.not_lt_zero k)
theorem fa_fill_in {α : Type} {f g : Nat → α} {i k : Nat} (h : k < i) : fa_fill f g i k = f k := if_pos h
theorem fa_fill_out {α : Type} {f g : Nat → α} {i k : Nat} (h : i ≤ k) : fa_fill f g i k = g k := if_neg (Nat.not_lt.mpr h)
theorem fa_fill_succ (f g : Nat → Int32) (i : Nat) : upd (fa_fill f g i) i (f i) = fa_fill f g (i + 1) := by
  funext k
  by_cases e : k = i
  · subst e
    rw [pk_us]
    exact (if_pos (Nat.lt_succ_self k)).symm
  · rw [pk_un e]
    by_cases h : k < i
    · rw [fa_fill_in h, fa_fill_in (Nat.lt_succ_of_lt h)]
    · rw [fa_fill_out (Nat.le_of_not_lt h), fa_fill_out (by omega)]
/-- a store that changes nothing -/
theorem fa_upd_same {f : Nat → Int32} {i : Nat} {x : Int32} (h : f i = x) : upd f i x = f := by
  funext k
  by_cases e : k = i
  · subst e
    rw [pk_us, h]
  · rw [pk_un e]
/-- a store under a condition, told as one -/
theorem fa_upd_if (c : Prop) [Decidable c] (f : Nat → Int32) (i : Nat) (x : Int32) : (if c then upd f i x else f) = upd f i (if c then x else f i) := by
  by_cases h : c
  · rw [if_pos h, if_pos h]
  · rw [if_neg h, if_neg h, fa_upd_same rfl]
/-- two stores at one place, at two -/
theorem fa_upd_twice (f : Nat → Int32) (i : Nat) (x y : Int32) : upd (upd f i x) i y = upd f i y := by
  funext k
  by_cases e : k = i
  · subst e
    rw [pk_us, pk_us]
  · rw [pk_un e, pk_un e, pk_un e]
theorem fa_upd_swap (f : Nat → Int32) {i j : Nat} (h : i ≠ j) (x y : Int32) : upd (upd f i x) j y = upd (upd f j y) i x := by
  funext k
  by_cases e : k = i
  · subst e
    rw [pk_un h, pk_us, pk_us]
  · by_cases e2 : k = j
    · subst e2
      rw [pk_us, pk_un e, pk_us]
    · rw [pk_un e2, pk_un e, pk_un e, pk_un e2]
/-! ===== the first index with a property; a count ===== -/
/-- the first k < n with p k, n if there is none -/
def fa_first (p : Nat → Bool) : Nat → Nat
  | 0 => 0
  | n + 1 => if fa_first p n < n then fa_first p n else if p n then n else n + 1
theorem fa_first_le (p : Nat → Bool) : ∀ n, fa_first p n ≤ n
  | 0 => Nat.le_refl 0
  | n + 1 => by
    have ih := fa_first_le p n
    unfold fa_first
    split
    · omega
    · split
      · omega
      · omega
theorem fa_first_no (p : Nat → Bool) : ∀ n k, k < fa_first p n → p k = false
  | 0, k, h => absurd h (Nat.not_lt_zero k)
  | n + 1, k, h => by
    have ih := fa_first_no p n
    have hl := fa_first_le p n
    unfold fa_first at h
    split at h
    · exact ih k h
    · rename_i h1
      split at h
      · exact ih k (by omega)
      · rename_i h2
        by_cases e : k = n
        · subst e
          exact Bool.eq_false_iff.mpr h2
        · exact ih k (by omega)
theorem fa_first_yes (p : Nat → Bool) : ∀ n, fa_first p n < n → p (fa_first p n) = true
  | 0, h => absurd h (Nat.not_lt_zero _)
  | n + 1, h => by
    have ih := fa_first_yes p n
    have hl := fa_first_le p n
    unfold fa_first at h ⊢
    split at h
    · rename_i h1
      rw [if_pos h1]
      exact ih h1
    · rename_i h1
      rw [if_neg h1]
      split at h
      · rename_i h2
        rw [if_pos h2]
        exact h2
      · omega
/-- how many k < n have p k -/
def fa_cnt (p : Nat → Bool) : Nat → Nat
  | 0 => 0
  | n + 1 => fa_cnt p n + if p n then 1 else 0
theorem fa_cnt_le (p : Nat → Bool) : ∀ n, fa_cnt p n ≤ n
  | 0 => Nat.le_refl 0
  | n + 1 => by
    have ih := fa_cnt_le p n
    unfold fa_cnt
    split
    · omega
    · omega
theorem fa_cnt_yes {p : Nat → Bool} {n : Nat} (h : p n = true) : fa_cnt p (n + 1) = fa_cnt p n + 1 := by rw [fa_cnt, if_pos h]
theorem fa_cnt_no {p : Nat → Bool} {n : Nat} (h : p n = false) : fa_cnt p (n + 1) = fa_cnt p n := by rw [fa_cnt, if_neg (by rw [h]; decide)]; rfl
theorem fa_cnt_cong {p q : Nat → Bool} : ∀ {n : Nat}, (∀ k, k < n → p k = q k) → fa_cnt p n = fa_cnt q n
  | 0, _ => rfl
  | n + 1, h => by rw [fa_cnt, fa_cnt, fa_cnt_cong (fun k hk => h k (Nat.lt_succ_of_lt hk)), h n (Nat.lt_succ_self n)]
/-! ===== an answer carried into a post; a branch on a boolean answer ===== -/
theorem fa_post {α : Type} {P : α → Prop} {x y : α} (h : x = y) (hp : P y) : P x := h ▸ hp
theorem fa_post2 {α β : Type} {P : α → β → Prop} {x y : α} {u v : β} (h : x = y) (h2 : u = v) (hp : P y v) : P x u := h ▸ h2 ▸ hp
theorem fa_bool {r : Int32} {b : Bool} (h : r = if b then 1 else 0) : (r = 0 ↔ b = false) ∧ (¬ r = 0 ↔ b = true) := by
  subst h
  cases b
  · exact ⟨⟨fun _ => rfl, fun _ => rfl⟩, ⟨fun h => absurd rfl h, fun h => absurd h (by decide)⟩⟩
  · exact ⟨⟨fun h => absurd h (by decide), fun h => absurd h (by decide)⟩, ⟨fun _ => rfl, fun _ => by decide⟩⟩
/-- a boolean's narrowing changes nothing -/
theorem fa_bool_and {r : Int32} (h : r = 0 ∨ r = 1) : r &&& 1 = r := by
  rcases h with rfl | rfl
  · decide
  · decide
theorem fa_bool_prop {c : Prop} [Decidable c] {r : Int32} (h : r = if c then 1 else 0) : (r = 0 ↔ ¬ c) ∧ (¬ r = 0 ↔ c) := by
  subst h
  by_cases hc : c
  · rw [if_pos hc]
    exact ⟨⟨fun h => absurd h (by decide), fun h => absurd hc h⟩, ⟨fun _ => hc, fun _ => by decide⟩⟩
  · rw [if_neg hc]
    exact ⟨⟨fun _ => hc, fun _ => rfl⟩, ⟨fun h => absurd rfl h, fun h => absurd h hc⟩⟩
end
section
/-! plain facts to paste, each family by itself; over the kit's nI, lN and upd -/
/-! ===== drawers: more things than places ===== -/
theorem fb_holes : ∀ (m n : Nat) (f : Nat → Nat), (∀ i, i < n → f i < m) → (∀ i j, i < j → j < n → f i ≠ f j) → n ≤ m := by
  intro m
  induction m with
  | zero =>
    intro n f h1 _
    rcases Nat.eq_zero_or_pos n with h | h
    · omega
    · exact absurd (h1 0 h) (Nat.not_lt_zero _)
  | succ m ih =>
    intro n f h1 h2
    by_cases hx : ∃ i, i < n ∧ f i = m
    · obtain ⟨a, ha, hfa⟩ := hx
      have hg := ih (n - 1) (fun i => if i < a then f i else f (i + 1)) (by
        intro i hi
        by_cases q : i < a
        · simp only [if_pos q]
          have b1 := h1 i (by omega)
          have b2 := h2 i a q ha
          omega
        · simp only [if_neg q]
          have b1 := h1 (i + 1) (by omega)
          have b2 := h2 a (i + 1) (by omega) (by omega)
          omega) (by
        intro i j hij hj
        by_cases q : i < a
        · by_cases r : j < a
          · simp only [if_pos q, if_pos r]
            exact h2 i j hij (by omega)
          · simp only [if_pos q, if_neg r]
            exact h2 i (j + 1) (by omega) (by omega)
        · have r : ¬ j < a := by omega
          simp only [if_neg q, if_neg r]
          exact h2 (i + 1) (j + 1) (by omega) (by omega))
      omega
    · have hg := ih n f (fun i hi => by
        have b1 := h1 i hi
        have b2 : f i ≠ m := fun e => hx ⟨i, hi, e⟩
        omega) h2
      omega
/-- two of them in one place -/
theorem fb_twice {m n : Nat} {f : Nat → Nat} (h : ∀ i, i < n → f i < m) (hm : m < n) : ∃ i j, i < j ∧ j < n ∧ f i = f j := by
  refine Classical.byContradiction fun hx => ?_
  have := fb_holes m n f h (fun i j hij hj e => hx ⟨i, j, hij, hj, e⟩)
  omega
/-- as many as places, none twice: each place is taken -/
theorem fb_onto {n : Nat} {f : Nat → Nat} (h : ∀ i, i < n → f i < n) (h2 : ∀ i j, i < j → j < n → f i ≠ f j) {y : Nat} (hy : y < n) : ∃ i, i < n ∧ f i = y := by
  refine Classical.byContradiction fun hx => ?_
  have hne : ∀ i, i < n → f i ≠ y := fun i hi e => hx ⟨i, hi, e⟩
  have := fb_holes (n - 1) n (fun i => if f i < y then f i else f i - 1) (by
    intro i hi
    have b1 := h i hi
    have b2 := hne i hi
    by_cases q : f i < y
    · simp only [if_pos q]; omega
    · simp only [if_neg q]; omega) (by
    intro i j hij hj
    have b1 := hne i (by omega)
    have b2 := hne j hj
    have b3 := h2 i j hij hj
    by_cases q : f i < y
    · by_cases r : f j < y
      · simp only [if_pos q, if_pos r]; exact b3
      · simp only [if_pos q, if_neg r]; omega
    · by_cases r : f j < y
      · simp only [if_neg q, if_pos r]; omega
      · simp only [if_neg q, if_neg r]; omega)
  omega
/-! ===== how many places have a property ===== -/
def fb_ct (p : Nat → Bool) : Nat → Nat
  | 0 => 0
  | n + 1 => fb_ct p n + (if p n then 1 else 0)
theorem fb_ct_succ (p : Nat → Bool) (n : Nat) : fb_ct p (n + 1) = fb_ct p n + (if p n then 1 else 0) := rfl
theorem fb_ct_le (p : Nat → Bool) : ∀ n, fb_ct p n ≤ n
  | 0 => Nat.le_refl _
  | n + 1 => by
    have h := fb_ct_le p n
    rw [fb_ct_succ]
    split <;> omega
theorem fb_ct_step (p : Nat → Bool) (m : Nat) : ∀ n, fb_ct p m ≤ fb_ct p (m + n)
  | 0 => Nat.le_refl _
  | n + 1 => by
    have h := fb_ct_step p m n
    show fb_ct p m ≤ fb_ct p (m + n + 1)
    rw [fb_ct_succ]
    omega
theorem fb_ct_mono (p : Nat → Bool) {m n : Nat} (h : m ≤ n) : fb_ct p m ≤ fb_ct p n := by
  have := fb_ct_step p m (n - m)
  rwa [Nat.add_sub_cancel' h] at this
theorem fb_ct_cong {p q : Nat → Bool} : ∀ {n : Nat}, (∀ k, k < n → p k = q k) → fb_ct p n = fb_ct q n
  | 0, _ => rfl
  | n + 1, h => by
    rw [fb_ct_succ, fb_ct_succ, fb_ct_cong (fun k hk => h k (by omega)), h n (by omega)]
/-- one place changed -/
theorem fb_ct_out (p : Nat → Bool) (b : Bool) {i n : Nat} (h : n ≤ i) : fb_ct (fun k => if k = i then b else p k) n = fb_ct p n :=
  fb_ct_cong fun k hk => if_neg (by omega)
theorem fb_ct_upd (p : Nat → Bool) (b : Bool) {i : Nat} : ∀ {n : Nat}, i < n → fb_ct (fun k => if k = i then b else p k) n + (if p i then 1 else 0) = fb_ct p n + (if b then 1 else 0)
  | 0, h => absurd h (Nat.not_lt_zero i)
  | n + 1, h => by
    rw [fb_ct_succ, fb_ct_succ]
    rcases Nat.lt_or_ge i n with q | q
    · have := fb_ct_upd p b q
      have e : (if n = i then b else p n) = p n := if_neg (by omega)
      rw [e]
      omega
    · have e : i = n := by omega
      subst e
      rw [fb_ct_out p b (Nat.le_refl _)]
      simp only [if_true]
      omega
theorem fb_ct_sub {p q : Nat → Bool} : ∀ {n : Nat}, (∀ k, k < n → p k = true → q k = true) → fb_ct p n ≤ fb_ct q n
  | 0, _ => Nat.le_refl _
  | n + 1, h => by
    have h1 := fb_ct_sub (n := n) (p := p) (q := q) (fun k hk => h k (by omega))
    have h2 := h n (by omega)
    rw [fb_ct_succ, fb_ct_succ]
    cases hp : p n <;> cases hq : q n <;> simp_all <;> omega
theorem fb_ct_or {p q : Nat → Bool} : ∀ {n : Nat}, (∀ k, k < n → ¬ (p k = true ∧ q k = true)) → fb_ct (fun k => p k || q k) n = fb_ct p n + fb_ct q n
  | 0, _ => rfl
  | n + 1, h => by
    have h1 := fb_ct_or (n := n) (p := p) (q := q) (fun k hk => h k (by omega))
    have h2 := h n (by omega)
    rw [fb_ct_succ, fb_ct_succ, fb_ct_succ, h1]
    cases hp : p n <;> cases hq : q n <;> simp_all <;> omega
theorem fb_ct_not (p : Nat → Bool) : ∀ n, fb_ct p n + fb_ct (fun k => !p k) n = n
  | 0 => rfl
  | n + 1 => by
    have h := fb_ct_not p n
    rw [fb_ct_succ, fb_ct_succ]
    cases p n <;> simp <;> omega
theorem fb_ct_split (p : Nat → Bool) (m : Nat) : ∀ n, fb_ct p (m + n) = fb_ct p m + fb_ct (fun k => p (m + k)) n
  | 0 => rfl
  | n + 1 => by
    have h := fb_ct_split p m n
    show fb_ct p (m + n + 1) = _
    rw [fb_ct_succ, fb_ct_succ, h, Nat.add_assoc]
theorem fb_ct_zero {p : Nat → Bool} : ∀ {n : Nat}, fb_ct p n = 0 ↔ ∀ k, k < n → p k = false
  | 0 => ⟨fun _ k hk => absurd hk (Nat.not_lt_zero k), fun _ => rfl⟩
  | n + 1 => by
    have h := fb_ct_zero (p := p) (n := n)
    rw [fb_ct_succ]
    constructor
    · intro e k hk
      have e1 : fb_ct p n = 0 := by omega
      rcases Nat.lt_or_ge k n with q | q
      · exact h.mp e1 k q
      · have ek : k = n := by omega
        subst ek
        cases hp : p k
        · rfl
        · simp [hp] at e
    · intro a
      rw [h.mpr (fun k hk => a k (by omega)), a n (by omega)]
      rfl
theorem fb_ct_pos {p : Nat → Bool} {n : Nat} : 0 < fb_ct p n ↔ ∃ k, k < n ∧ p k = true := by
  constructor
  · intro h
    refine Classical.byContradiction fun hx => ?_
    have := fb_ct_zero.mpr (fun k hk => by
      cases hp : p k
      · rfl
      · exact absurd ⟨k, hk, hp⟩ hx : ∀ k, k < n → p k = false)
    omega
  · rintro ⟨k, hk, hp⟩
    rcases Nat.eq_zero_or_pos (fb_ct p n) with e | e
    · have := fb_ct_zero.mp e k hk
      rw [this] at hp
      cases hp
    · exact e
theorem fb_ct_all {p : Nat → Bool} {n : Nat} : fb_ct p n = n ↔ ∀ k, k < n → p k = true := by
  have h := fb_ct_not p n
  constructor
  · intro e k hk
    have z : fb_ct (fun k => !p k) n = 0 := by omega
    have := fb_ct_zero.mp z k hk
    cases hp : p k
    · simp [hp] at this
    · rfl
  · intro a
    have z : fb_ct (fun k => !p k) n = 0 := fb_ct_zero.mpr (fun k hk => by simp [a k hk])
    omega
/-- the k-th place with the property -/
theorem fb_ct_kth {p : Nat → Bool} {k : Nat} : ∀ {n : Nat}, k < fb_ct p n → ∃ i, i < n ∧ p i = true ∧ fb_ct p i = k
  | 0, h => absurd h (Nat.not_lt_zero k)
  | n + 1, h => by
    rcases Nat.lt_or_ge k (fb_ct p n) with q | q
    · obtain ⟨i, h1, h2⟩ := fb_ct_kth q
      exact ⟨i, by omega, h2⟩
    · rw [fb_ct_succ] at h
      cases hp : p n
      · simp [hp] at h; omega
      · simp [hp] at h
        exact ⟨n, by omega, hp, by omega⟩
theorem fb_ct_kth_one {p : Nat → Bool} {i j : Nat} (hi : p i = true) (hj : p j = true) (e : fb_ct p i = fb_ct p j) : i = j := by
  have key : ∀ a b : Nat, a < b → p a = true → fb_ct p a < fb_ct p b := by
    intro a b hab ha
    have h := fb_ct_mono p (show a + 1 ≤ b from hab)
    rw [fb_ct_succ, ha] at h
    simp at h
    omega
  rcases Nat.lt_trichotomy i j with q | q | q
  · have := key i j q hi; omega
  · exact q
  · have := key j i q hj; omega
/-! ===== sums over a range: one place changed, parts, bounds ===== -/
def fb_sm (f : Nat → Nat) : Nat → Nat
  | 0 => 0
  | n + 1 => fb_sm f n + f n
theorem fb_sm_succ (f : Nat → Nat) (n : Nat) : fb_sm f (n + 1) = fb_sm f n + f n := rfl
theorem fb_sm_cong {f g : Nat → Nat} : ∀ {n : Nat}, (∀ k, k < n → f k = g k) → fb_sm f n = fb_sm g n
  | 0, _ => rfl
  | n + 1, h => by rw [fb_sm_succ, fb_sm_succ, fb_sm_cong (fun k hk => h k (by omega)), h n (by omega)]
theorem fb_sm_out (f : Nat → Nat) (v : Nat) {i n : Nat} (h : n ≤ i) : fb_sm (fun k => if k = i then v else f k) n = fb_sm f n :=
  fb_sm_cong fun k hk => if_neg (by omega)
theorem fb_sm_upd (f : Nat → Nat) (v : Nat) {i : Nat} : ∀ {n : Nat}, i < n → fb_sm (fun k => if k = i then v else f k) n + f i = fb_sm f n + v
  | 0, h => absurd h (Nat.not_lt_zero i)
  | n + 1, h => by
    rw [fb_sm_succ, fb_sm_succ]
    rcases Nat.lt_or_ge i n with q | q
    · have := fb_sm_upd f v q
      have e : (if n = i then v else f n) = f n := if_neg (by omega)
      rw [e]
      omega
    · have e : i = n := by omega
      subst e
      rw [fb_sm_out f v (Nat.le_refl _)]
      simp only [if_true]
      omega
theorem fb_sm_add (f g : Nat → Nat) : ∀ n, fb_sm (fun k => f k + g k) n = fb_sm f n + fb_sm g n
  | 0 => rfl
  | n + 1 => by
    have h := fb_sm_add f g n
    rw [fb_sm_succ, fb_sm_succ, fb_sm_succ, h]
    omega
theorem fb_sm_le {f g : Nat → Nat} : ∀ {n : Nat}, (∀ k, k < n → f k ≤ g k) → fb_sm f n ≤ fb_sm g n
  | 0, _ => Nat.le_refl _
  | n + 1, h => by
    have h1 := fb_sm_le (n := n) (f := f) (g := g) (fun k hk => h k (by omega))
    have h2 := h n (by omega)
    rw [fb_sm_succ, fb_sm_succ]
    omega
theorem fb_sm_const (c : Nat) : ∀ n, fb_sm (fun _ => c) n = n * c
  | 0 => by rw [Nat.zero_mul]; rfl
  | n + 1 => by rw [fb_sm_succ, fb_sm_const c n, Nat.succ_mul]
theorem fb_sm_bound {f : Nat → Nat} {c n : Nat} (h : ∀ k, k < n → f k ≤ c) : fb_sm f n ≤ n * c := by
  rw [← fb_sm_const c n]
  exact fb_sm_le h
theorem fb_sm_mono (f : Nat → Nat) (m : Nat) : ∀ n, fb_sm f m ≤ fb_sm f (m + n)
  | 0 => Nat.le_refl _
  | n + 1 => by
    have h := fb_sm_mono f m n
    show fb_sm f m ≤ fb_sm f (m + n + 1)
    rw [fb_sm_succ]
    omega
theorem fb_sm_part (f : Nat → Nat) {i n : Nat} (h : i < n) : fb_sm f i + f i ≤ fb_sm f n := by
  have := fb_sm_mono f (i + 1) (n - (i + 1))
  rw [fb_sm_succ, show i + 1 + (n - (i + 1)) = n by omega] at this
  exact this
theorem fb_sm_split (f : Nat → Nat) (m : Nat) : ∀ n, fb_sm f (m + n) = fb_sm f m + fb_sm (fun k => f (m + k)) n
  | 0 => rfl
  | n + 1 => by
    have h := fb_sm_split f m n
    show fb_sm f (m + n + 1) = _
    rw [fb_sm_succ, fb_sm_succ, h, Nat.add_assoc]
theorem fb_sm_zero {f : Nat → Nat} {n : Nat} (h : fb_sm f n = 0) : ∀ k, k < n → f k = 0 := fun k hk => by
  have := fb_sm_part f hk
  omega
/-- the same over whole numbers -/
def fb_si (f : Nat → Int) : Nat → Int
  | 0 => 0
  | n + 1 => fb_si f n + f n
theorem fb_si_succ (f : Nat → Int) (n : Nat) : fb_si f (n + 1) = fb_si f n + f n := rfl
theorem fb_si_cong {f g : Nat → Int} : ∀ {n : Nat}, (∀ k, k < n → f k = g k) → fb_si f n = fb_si g n
  | 0, _ => rfl
  | n + 1, h => by rw [fb_si_succ, fb_si_succ, fb_si_cong (fun k hk => h k (by omega)), h n (by omega)]
theorem fb_si_out (f : Nat → Int) (v : Int) {i n : Nat} (h : n ≤ i) : fb_si (fun k => if k = i then v else f k) n = fb_si f n :=
  fb_si_cong fun k hk => if_neg (by omega)
theorem fb_si_upd (f : Nat → Int) (v : Int) {i : Nat} : ∀ {n : Nat}, i < n → fb_si (fun k => if k = i then v else f k) n = fb_si f n - f i + v
  | 0, h => absurd h (Nat.not_lt_zero i)
  | n + 1, h => by
    rw [fb_si_succ, fb_si_succ]
    rcases Nat.lt_or_ge i n with q | q
    · have := fb_si_upd f v q
      have e : (if n = i then v else f n) = f n := if_neg (by omega)
      rw [e]
      omega
    · have e : i = n := by omega
      subst e
      rw [fb_si_out f v (Nat.le_refl _)]
      simp only [if_true]
      omega
theorem fb_si_add (f g : Nat → Int) : ∀ n, fb_si (fun k => f k + g k) n = fb_si f n + fb_si g n
  | 0 => rfl
  | n + 1 => by
    have h := fb_si_add f g n
    rw [fb_si_succ, fb_si_succ, fb_si_succ, h]
    omega
theorem fb_si_sub (f g : Nat → Int) : ∀ n, fb_si (fun k => f k - g k) n = fb_si f n - fb_si g n
  | 0 => rfl
  | n + 1 => by
    have h := fb_si_sub f g n
    rw [fb_si_succ, fb_si_succ, fb_si_succ, h]
    omega
theorem fb_si_mul (c : Int) (f : Nat → Int) : ∀ n, fb_si (fun k => c * f k) n = c * fb_si f n
  | 0 => (Int.mul_zero c).symm
  | n + 1 => by
    have h := fb_si_mul c f n
    rw [fb_si_succ, fb_si_succ, h, Int.mul_add]
theorem fb_si_split (f : Nat → Int) (m : Nat) : ∀ n, fb_si f (m + n) = fb_si f m + fb_si (fun k => f (m + k)) n
  | 0 => (Int.add_zero _).symm
  | n + 1 => by
    have h := fb_si_split f m n
    show fb_si f (m + n + 1) = _
    rw [fb_si_succ, fb_si_succ, h, Int.add_assoc]
theorem fb_si_nat (f : Nat → Nat) : ∀ n, fb_si (fun k => (f k : Int)) n = (fb_sm f n : Int)
  | 0 => rfl
  | n + 1 => by
    have h := fb_si_nat f n
    rw [fb_si_succ, fb_sm_succ, h]
    omega
theorem fb_si_bound {f : Nat → Int} {c : Int} (hc : 0 ≤ c) : ∀ {n : Nat}, (∀ k, k < n → -c ≤ f k ∧ f k ≤ c) → -(n * c) ≤ fb_si f n ∧ fb_si f n ≤ n * c
  | 0, _ => by simp [fb_si]
  | n + 1, h => by
    have h1 := fb_si_bound (n := n) (f := f) hc (fun k hk => h k (by omega))
    have h2 := h n (by omega)
    have e : ((n + 1 : Nat) : Int) * c = n * c + c := by rw [Int.natCast_add, Int.add_mul]; simp
    rw [fb_si_succ, e]
    omega
/-! ===== bits of a long that isn't negative ===== -/
theorem fb_andL (a b : Nat) : lN a &&& lN b = lN (a &&& b) := by
  apply Int64.toBitVec_inj.1
  show BitVec.ofNat 64 a &&& BitVec.ofNat 64 b = BitVec.ofNat 64 (a &&& b)
  apply BitVec.eq_of_getLsbD_eq
  intro i hi
  simp [hi]
theorem fb_orL (a b : Nat) : lN a ||| lN b = lN (a ||| b) := by
  apply Int64.toBitVec_inj.1
  show BitVec.ofNat 64 a ||| BitVec.ofNat 64 b = BitVec.ofNat 64 (a ||| b)
  apply BitVec.eq_of_getLsbD_eq
  intro i hi
  simp [hi]
theorem fb_xorL (a b : Nat) : lN a ^^^ lN b = lN (a ^^^ b) := by
  apply Int64.toBitVec_inj.1
  show BitVec.ofNat 64 a ^^^ BitVec.ofNat 64 b = BitVec.ofNat 64 (a ^^^ b)
  apply BitVec.eq_of_getLsbD_eq
  intro i hi
  simp [hi]
theorem fb_xorI (a b : Nat) : nI a ^^^ nI b = nI (a ^^^ b) := by
  apply Int32.toBitVec_inj.1
  show BitVec.ofNat 32 a ^^^ BitVec.ofNat 32 b = BitVec.ofNat 32 (a ^^^ b)
  apply BitVec.eq_of_getLsbD_eq
  intro i hi
  simp [hi]
theorem fb_maskL (n k : Nat) : lN n &&& lN (2 ^ k - 1) = lN (n % 2 ^ k) := by rw [fb_andL, Nat.and_two_pow_sub_one_eq_mod]
theorem fb_or_sumL {a k : Nat} (b : Nat) (h : a < 2 ^ k) : lN (2 ^ k * b) ||| lN a = lN (2 ^ k * b + a) := by rw [fb_orL, Nat.two_pow_add_eq_or_of_lt h]
theorem fb_lN_inj {a b : Nat} (ha : a < 2 ^ 63) (hb : b < 2 ^ 63) : lN a = lN b ↔ a = b := by
  constructor
  · intro h
    have h1 : (BitVec.ofNat 64 a).toNat = (BitVec.ofNat 64 b).toNat := congrArg (fun x : Int64 => x.toBitVec.toNat) h
    rw [BitVec.toNat_ofNat, BitVec.toNat_ofNat, Nat.mod_eq_of_lt (by omega), Nat.mod_eq_of_lt (by omega)] at h1
    exact h1
  · rintro rfl; rfl
theorem fb_bit_nat (n j : Nat) : n &&& 2 ^ j = 0 ↔ n.testBit j = false := by
  constructor
  · intro h
    have h1 : (n &&& 2 ^ j).testBit j = false := by rw [h]; simp
    rw [Nat.testBit_and] at h1
    simpa using h1
  · intro h
    apply Nat.eq_of_testBit_eq
    intro i
    rw [Nat.testBit_and]
    by_cases hi : j = i
    · subst hi; simp [h]
    · first | (simp [Nat.testBit_two_pow, hi]; done) | (simp [Nat.testBit_two_pow_of_ne hi]; done)
/-- one bit of a long -/
theorem fb_bitL {n j : Nat} (hj : j < 63) : lN n &&& lN (2 ^ j) = 0 ↔ n.testBit j = false := by
  have h2 : (2 : Nat) ^ j < 2 ^ 63 := Nat.pow_lt_pow_right (by decide) hj
  have hle : n &&& 2 ^ j ≤ 2 ^ j := Nat.and_le_right
  rw [fb_andL, ← fb_bit_nat, show (0 : Int64) = lN 0 from rfl]
  exact fb_lN_inj (by omega) (by decide)
/-- a bit set, a bit taken off -/
theorem fb_bit_set (n j i : Nat) : (n ||| 2 ^ j).testBit i = (n.testBit i || decide (i = j)) := by
  rw [Nat.testBit_or]
  by_cases h : j = i
  · subst h; simp
  · have h2 : ¬ i = j := fun e => h e.symm
    first | (simp [Nat.testBit_two_pow, h, h2]; done) | (simp [Nat.testBit_two_pow_of_ne h, h2]; done)
theorem fb_bit_flip (n j i : Nat) : (n ^^^ 2 ^ j).testBit i = (n.testBit i ^^ decide (i = j)) := by
  rw [Nat.testBit_xor]
  by_cases h : j = i
  · subst h; simp
  · have h2 : ¬ i = j := fun e => h e.symm
    first | (simp [Nat.testBit_two_pow, h, h2]; done) | (simp [Nat.testBit_two_pow_of_ne h, h2]; done)
/-! ===== a stretch of an array written over by a function ===== -/
def fb_put {α : Type} (f g : Nat → α) (a n : Nat) : Nat → α := fun k => if a ≤ k ∧ k < a + n then g (k - a) else f k
theorem fb_put_0 {α : Type} (f g : Nat → α) (a : Nat) : fb_put f g a 0 = f := funext fun k => if_neg (by omega)
theorem fb_put_in {α : Type} {f g : Nat → α} {a n k : Nat} (h1 : a ≤ k) (h2 : k < a + n) : fb_put f g a n k = g (k - a) := if_pos ⟨h1, h2⟩
theorem fb_put_out {α : Type} {f g : Nat → α} {a n k : Nat} (h : k < a ∨ a + n ≤ k) : fb_put f g a n k = f k := if_neg (by omega)
theorem fb_put_succ (f g : Nat → Int32) (a n : Nat) : upd (fb_put f g a n) (a + n) (g n) = fb_put f g a (n + 1) := by
  funext k
  by_cases h : k = a + n
  · subst h
    simp [upd, fb_put]
  · by_cases h1 : a ≤ k ∧ k < a + n
    · have h2 : a ≤ k ∧ k < a + (n + 1) := by omega
      simp only [upd, fb_put, if_neg h, if_pos h1, if_pos h2]
    · have h2 : ¬ (a ≤ k ∧ k < a + (n + 1)) := by omega
      simp only [upd, fb_put, if_neg h, if_neg h1, if_neg h2]
/-- .. from the far end down -/
theorem fb_put_down (f g : Nat → Int32) {a n m : Nat} (h : m < n) : upd (fb_put f (fun k => g (k + (m + 1))) (a + (m + 1)) (n - (m + 1))) (a + m) (g m) = fb_put f (fun k => g (k + m)) (a + m) (n - m) := by
  funext k
  by_cases h0 : k = a + m
  · subst h0
    simp only [upd, if_true]
    rw [fb_put_in (by omega) (by omega)]
    exact congrArg g (by omega)
  · simp only [upd, if_neg h0]
    by_cases h1 : a + (m + 1) ≤ k ∧ k < a + (m + 1) + (n - (m + 1))
    · rw [fb_put_in h1.1 h1.2, fb_put_in (by omega) (by omega)]
      exact congrArg g (by omega)
    · rw [fb_put_out (by omega), fb_put_out (by omega)]
theorem fb_put_cong {α : Type} {f f2 g g2 : Nat → α} {a n : Nat} (hf : ∀ k, (k < a ∨ a + n ≤ k) → f k = f2 k) (hg : ∀ k, k < n → g k = g2 k) : fb_put f g a n = fb_put f2 g2 a n := by
  funext k
  by_cases h : a ≤ k ∧ k < a + n
  · rw [fb_put_in h.1 h.2, fb_put_in h.1 h.2, hg _ (by omega)]
  · rw [fb_put_out (by omega), fb_put_out (by omega), hf _ (by omega)]
/-! ===== the least, the first, the best so far; that there is one alone ===== -/
theorem fb_first {p : Nat → Prop} [DecidablePred p] : ∀ {n : Nat}, (∃ i, i < n ∧ p i) → ∃ i, i < n ∧ p i ∧ ∀ j, j < i → ¬ p j
  | 0, h => by obtain ⟨i, hi, -⟩ := h; exact absurd hi (Nat.not_lt_zero i)
  | n + 1, h => by
    by_cases q : ∃ i, i < n ∧ p i
    · obtain ⟨i, h1, h2⟩ := fb_first q
      exact ⟨i, by omega, h2⟩
    · obtain ⟨i, h1, h2⟩ := h
      have e : i = n := by
        rcases Nat.lt_or_ge i n with r | r
        · exact absurd ⟨i, r, h2⟩ q
        · omega
      subst e
      exact ⟨i, by omega, h2, fun j hj hp => q ⟨j, hj, hp⟩⟩
theorem fb_first_one {p : Nat → Prop} {i j : Nat} (hi : p i) (hi2 : ∀ k, k < i → ¬ p k) (hj : p j) (hj2 : ∀ k, k < j → ¬ p k) : i = j := by
  rcases Nat.lt_trichotomy i j with q | q | q
  · exact absurd hi (hj2 i q)
  · exact q
  · exact absurd hj (hi2 j q)
theorem fb_last {p : Nat → Prop} [DecidablePred p] : ∀ {n : Nat}, (∃ i, i < n ∧ p i) → ∃ i, i < n ∧ p i ∧ ∀ j, i < j → j < n → ¬ p j
  | 0, h => by obtain ⟨i, hi, -⟩ := h; exact absurd hi (Nat.not_lt_zero i)
  | n + 1, h => by
    by_cases q : p n
    · exact ⟨n, by omega, q, fun j h1 h2 => by omega⟩
    · obtain ⟨i, h1, h2⟩ := h
      have hi : i < n := by
        rcases Nat.lt_or_ge i n with r | r
        · exact r
        · have e : i = n := by omega
          subst e
          exact absurd h2 q
      obtain ⟨i2, a1, a2, a3⟩ := fb_last (n := n) ⟨i, hi, h2⟩
      refine ⟨i2, by omega, a2, fun j b1 b2 => ?_⟩
      rcases Nat.lt_or_ge j n with r | r
      · exact a3 j b1 r
      · have e : j = n := by omega
        subst e
        exact q
/-- the first greatest -/
theorem fb_best (f : Nat → Int) : ∀ {n : Nat}, 0 < n → ∃ i, i < n ∧ (∀ j, j < n → f j ≤ f i) ∧ ∀ j, j < i → f j < f i
  | 0, h => absurd h (Nat.lt_irrefl 0)
  | 1, _ => ⟨0, by omega, fun j hj => by have e : j = 0 := by omega
                                         subst e; exact Int.le_refl _, fun j hj => absurd hj (Nat.not_lt_zero j)⟩
  | n + 2, _ => by
    obtain ⟨i, h1, h2, h3⟩ := fb_best f (n := n + 1) (by omega)
    by_cases q : f i < f (n + 1)
    · refine ⟨n + 1, by omega, fun j hj => ?_, fun j hj => ?_⟩
      · rcases Nat.lt_or_ge j (n + 1) with r | r
        · have := h2 j r; omega
        · have e : j = n + 1 := by omega
          subst e; exact Int.le_refl _
      · have := h2 j hj; omega
    · refine ⟨i, by omega, fun j hj => ?_, h3⟩
      rcases Nat.lt_or_ge j (n + 1) with r | r
      · exact h2 j r
      · have e : j = n + 1 := by omega
        subst e; omega
theorem fb_best_one {f : Nat → Int} {n i j : Nat} (hi : i < n) (hi2 : ∀ k, k < n → f k ≤ f i) (hi3 : ∀ k, k < i → f k < f i) (hj : j < n) (hj2 : ∀ k, k < n → f k ≤ f j) (hj3 : ∀ k, k < j → f k < f j) : i = j := by
  rcases Nat.lt_trichotomy i j with q | q | q
  · have a := hj3 i q
    have b := hi2 j hj
    omega
  · exact q
  · have a := hi3 j q
    have b := hj2 i hi
    omega
/-- the first least -/
theorem fb_low (f : Nat → Int) {n : Nat} (h : 0 < n) : ∃ i, i < n ∧ (∀ j, j < n → f i ≤ f j) ∧ ∀ j, j < i → f i < f j := by
  obtain ⟨i, h1, h2, h3⟩ := fb_best (fun k => -f k) h
  exact ⟨i, h1, fun j hj => by have := h2 j hj; omega, fun j hj => by have := h3 j hj; omega⟩
/-! ===== signed ints as whole numbers, within bounds ===== -/
theorem fb_rng (x : Int32) : -2147483648 ≤ x.toInt ∧ x.toInt < 2147483648 := by
  have h1 := Int32.le_toInt x
  have h2 := Int32.toInt_lt x
  omega
theorem fb_bmod {z : Int} (h1 : -2147483648 ≤ z) (h2 : z < 2147483648) : z.bmod (2 ^ 32) = z := by
  rw [Int.bmod_eq_of_le (by omega) (by omega)]
theorem fb_addI {x y : Int32} (h1 : -2147483648 ≤ x.toInt + y.toInt) (h2 : x.toInt + y.toInt < 2147483648) : (x + y).toInt = x.toInt + y.toInt := by
  rw [Int32.toInt_add, fb_bmod h1 h2]
theorem fb_subI {x y : Int32} (h1 : -2147483648 ≤ x.toInt - y.toInt) (h2 : x.toInt - y.toInt < 2147483648) : (x - y).toInt = x.toInt - y.toInt := by
  rw [Int32.toInt_sub, fb_bmod h1 h2]
theorem fb_mulI {x y : Int32} (h1 : -2147483648 ≤ x.toInt * y.toInt) (h2 : x.toInt * y.toInt < 2147483648) : (x * y).toInt = x.toInt * y.toInt := by
  rw [Int32.toInt_mul, fb_bmod h1 h2]
theorem fb_negI {x : Int32} (h : x.toInt ≠ -2147483648) : (-x).toInt = -x.toInt := by
  have := fb_rng x
  rw [Int32.toInt_neg, fb_bmod (by omega) (by omega)]
theorem fb_ofI {z : Int} (h1 : -2147483648 ≤ z) (h2 : z < 2147483648) : (Int32.ofInt z).toInt = z := by
  rw [Int32.toInt_ofInt, fb_bmod h1 h2]
theorem fb_asI (x : Int32) : Int32.ofInt x.toInt = x := Int32.ofInt_toInt x
theorem fb_rngL (x : Int64) : -9223372036854775808 ≤ x.toInt ∧ x.toInt < 9223372036854775808 := by
  have h1 := Int64.le_toInt x
  have h2 := Int64.toInt_lt x
  omega
theorem fb_bmodL {z : Int} (h1 : -9223372036854775808 ≤ z) (h2 : z < 9223372036854775808) : z.bmod (2 ^ 64) = z := by
  rw [Int.bmod_eq_of_le (by omega) (by omega)]
theorem fb_addL {x y : Int64} (h1 : -9223372036854775808 ≤ x.toInt + y.toInt) (h2 : x.toInt + y.toInt < 9223372036854775808) : (x + y).toInt = x.toInt + y.toInt := by
  rw [Int64.toInt_add, fb_bmodL h1 h2]
theorem fb_subL {x y : Int64} (h1 : -9223372036854775808 ≤ x.toInt - y.toInt) (h2 : x.toInt - y.toInt < 9223372036854775808) : (x - y).toInt = x.toInt - y.toInt := by
  rw [Int64.toInt_sub, fb_bmodL h1 h2]
theorem fb_mulL {x y : Int64} (h1 : -9223372036854775808 ≤ x.toInt * y.toInt) (h2 : x.toInt * y.toInt < 9223372036854775808) : (x * y).toInt = x.toInt * y.toInt := by
  rw [Int64.toInt_mul, fb_bmodL h1 h2]
/-! ===== cuts of what is narrow already ===== -/
theorem fb_byte {x : Int32} (h1 : -128 ≤ x.toInt) (h2 : x.toInt < 128) : x.toInt8.toInt32 = x := by
  apply Int32.toInt_inj.1
  rw [Int8.toInt_toInt32, Int32.toInt_toInt8, Int.bmod_eq_of_le (by omega) (by omega)]
theorem fb_short {x : Int32} (h1 : -32768 ≤ x.toInt) (h2 : x.toInt < 32768) : x.toInt16.toInt32 = x := by
  apply Int32.toInt_inj.1
  rw [Int16.toInt_toInt32, Int32.toInt_toInt16, Int.bmod_eq_of_le (by omega) (by omega)]
theorem fb_byte_rng (x : Int32) : -128 ≤ x.toInt8.toInt32.toInt ∧ x.toInt8.toInt32.toInt < 128 := by
  rw [Int8.toInt_toInt32]
  have h1 := Int8.le_toInt x.toInt8
  have h2 := Int8.toInt_lt x.toInt8
  omega
theorem fb_short_rng (x : Int32) : -32768 ≤ x.toInt16.toInt32.toInt ∧ x.toInt16.toInt32.toInt < 32768 := by
  rw [Int16.toInt_toInt32]
  have h1 := Int16.le_toInt x.toInt16
  have h2 := Int16.toInt_lt x.toInt16
  omega
theorem fb_byte_twice (x : Int32) : x.toInt8.toInt32.toInt8.toInt32 = x.toInt8.toInt32 := fb_byte (fb_byte_rng x).1 (fb_byte_rng x).2
theorem fb_short_twice (x : Int32) : x.toInt16.toInt32.toInt16.toInt32 = x.toInt16.toInt32 := fb_short (fb_short_rng x).1 (fb_short_rng x).2
theorem fb_char {n : Nat} (h : n < 65536) : (nI n).toUInt32.toUInt16.toUInt32.toInt32 = nI n := by
  apply Int32.toBitVec_inj.1
  apply BitVec.eq_of_toNat_eq
  have e1 : (nI n).toBitVec.toNat = n := by
    show (BitVec.ofNat 32 n).toNat = n
    rw [BitVec.toNat_ofNat, Nat.mod_eq_of_lt (by omega)]
  have e2 : ((nI n).toUInt32.toUInt16.toUInt32).toNat = n := by
    rw [UInt16.toNat_toUInt32, UInt32.toNat_toUInt16]
    show (nI n).toBitVec.toNat % 2 ^ 16 = n
    rw [e1, Nat.mod_eq_of_lt (by omega)]
  rw [e1]
  exact e2
end
section
/-! PLAIN: sums of whole numbers over a range; a flow's potential form; cuts -/
theorem cr_si_le {f g : Nat → Int} {n : Nat} (h : ∀ k, k < n → f k ≤ g k) : fb_si f n ≤ fb_si g n := by
  induction n with
  | zero => exact Int.le_refl _
  | succ n ih =>
    have h1 := ih (fun k hk => h k (by omega))
    have h2 := h n (by omega)
    rw [fb_si_succ, fb_si_succ]
    omega
theorem cr_si_z {f : Nat → Int} {n : Nat} (h : ∀ k, k < n → f k = 0) : fb_si f n = 0 := by
  induction n with
  | zero => rfl
  | succ n ih =>
    rw [fb_si_succ, ih (fun k hk => h k (by omega)), h n (by omega)]
    rfl
theorem cr_si_nn {f : Nat → Int} {n : Nat} (h : ∀ k, k < n → 0 ≤ f k) : 0 ≤ fb_si f n := by
  induction n with
  | zero => exact Int.le_refl _
  | succ n ih =>
    have h1 := ih (fun k hk => h k (by omega))
    have h2 := h n (by omega)
    rw [fb_si_succ]
    omega
theorem cr_si_zero {f : Nat → Int} {n : Nat} (h : ∀ k, k < n → 0 ≤ f k) (hz : fb_si f n = 0) : ∀ k, k < n → f k = 0 := by
  induction n with
  | zero => intro k hk; omega
  | succ n ih =>
    have h1 := cr_si_nn (f := f) (n := n) (fun k hk => h k (by omega))
    have h2 := h n (by omega)
    rw [fb_si_succ] at hz
    intro k hk
    by_cases hkn : k = n
    · subst hkn; omega
    · exact ih (fun k hk => h k (by omega)) (by omega) k (by omega)
theorem cr_si_one {f g : Nat → Int} {n k : Nat} (hk : k < n) (h : ∀ i, i < n → i ≠ k → f i = g i) : fb_si f n = fb_si g n + (f k - g k) := by
  induction n with
  | zero => omega
  | succ n ih =>
    rw [fb_si_succ, fb_si_succ]
    by_cases hkn : k = n
    · subst hkn
      rw [fb_si_cong (f := f) (g := g) (fun i hi => h i (by omega) (by omega))]
      omega
    · rw [ih (by omega) (fun i hi hne => h i (by omega) hne), h n (by omega) (fun e => hkn e.symm)]
      omega
theorem cr_si_cut {f : Nat → Int} {c n : Nat} (hc : c ≤ n) (h : ∀ i, c ≤ i → i < n → f i = 0) : fb_si f n = fb_si f c := by
  have h1 := fb_si_split f c (n - c)
  rw [show c + (n - c) = n by omega] at h1
  rw [h1, cr_si_z (fun k hk => h (c + k) (by omega) (by omega))]
  omega
theorem cr_si_swap (f : Nat → Nat → Int) (m n : Nat) : fb_si (fun v => fb_si (fun a => f v a) n) m = fb_si (fun a => fb_si (fun v => f v a) m) n := by
  induction m with
  | zero => exact (cr_si_z (fun _ _ => rfl)).symm
  | succ m ih =>
    rw [fb_si_succ, ih, ← fb_si_add]
    rfl
theorem cr_si_pick (x : Nat → Int) {c n : Nat} (hc : c < n) : fb_si (fun v => if c = v then x v else 0) n = x c := by
  rw [cr_si_one (g := fun _ => 0) hc (fun i _ hne => if_neg (fun e => hne e.symm)), cr_si_z (fun _ _ => rfl), if_pos rfl]
  omega
/-- the 25 edges: arcs, the extra one, from the source, to the sink -/
theorem cr_si_25 (f : Nat → Int) : fb_si f 25 = fb_si f 12 + f 12 + fb_si (fun v => f (13 + v)) 6 + fb_si (fun v => f (19 + v)) 6 := by
  have h1 := fb_si_split f 12 13
  have h2 := fb_si_split f 13 6
  have h3 := fb_si_split f 19 6
  have h4 : fb_si f 13 = fb_si f 12 + f 12 := rfl
  have e1 : (13 : Nat) + 6 = 19 := rfl
  have e2 : (19 : Nat) + 6 = 25 := rfl
  rw [e1] at h2
  rw [e2] at h3
  omega
def cr_b (b : Bool) : Int := if b = true then 1 else 0
theorem cr_b_t {b : Bool} (h : b = true) : cr_b b = 1 := by rw [h]; rfl
theorem cr_b_f {b : Bool} (h : b = false) : cr_b b = 0 := by rw [h]; rfl
/-- what a flow F moves, against a potential p -/
def cr_pot (T G : Nat → Nat) (F p : Nat → Int) (n : Nat) : Int := fb_si (fun e => F e * (p (G e) - p (T e))) n
theorem cr_pot_upd {T G : Nat → Nat} {F F' p : Nat → Int} {n k : Nat} (hk : k < n) (h : ∀ i, i < n → i ≠ k → F' i = F i) : cr_pot T G F' p n = cr_pot T G F p n + (F' k - F k) * (p (G k) - p (T k)) := by
  unfold cr_pot
  rw [cr_si_one (f := fun e => F' e * (p (G e) - p (T e))) (g := fun e => F e * (p (G e) - p (T e))) hk (fun i hi hne => by simp only [h i hi hne])]
  rw [Int.sub_mul]
/-- what can leave a set at most -/
def cr_ct (T G : Nat → Nat) (R : Nat → Int) (S : Nat → Bool) (e : Nat) : Int := if S (T e) = true ∧ S (G e) = false then R e else 0
def cr_sl (T G : Nat → Nat) (R F : Nat → Int) (S : Nat → Bool) (e : Nat) : Int := cr_ct T G R S e + F e * (cr_b (S (G e)) - cr_b (S (T e)))
theorem cr_sl_tf {T G : Nat → Nat} {R F : Nat → Int} {S : Nat → Bool} {e : Nat} (h1 : S (T e) = true) (h2 : S (G e) = false) : cr_sl T G R F S e = R e - F e := by
  unfold cr_sl cr_ct
  rw [if_pos ⟨h1, h2⟩, cr_b_t h1, cr_b_f h2]
  omega
theorem cr_sl_ft {T G : Nat → Nat} {R F : Nat → Int} {S : Nat → Bool} {e : Nat} (h1 : S (T e) = false) (h2 : S (G e) = true) : cr_sl T G R F S e = F e := by
  unfold cr_sl cr_ct
  rw [if_neg (fun h => by rw [h1] at h; exact absurd h.1 (by decide)), cr_b_f h1, cr_b_t h2]
  omega
theorem cr_sl_eq {T G : Nat → Nat} {R F : Nat → Int} {S : Nat → Bool} {e : Nat} (h : S (T e) = S (G e)) : cr_sl T G R F S e = 0 := by
  unfold cr_sl cr_ct
  rw [if_neg (fun q => by rw [h, q.2] at q; exact absurd q.1 (by decide)), h]
  omega
theorem cr_sl_nn {T G : Nat → Nat} {R F : Nat → Int} {S : Nat → Bool} {e : Nat} (h0 : 0 ≤ F e) (h1 : F e ≤ R e) : 0 ≤ cr_sl T G R F S e := by
  cases a : S (T e) <;> cases b : S (G e)
  · rw [cr_sl_eq (a.trans b.symm)]; exact Int.le_refl _
  · rw [cr_sl_ft a b]; exact h0
  · rw [cr_sl_tf a b]; omega
  · rw [cr_sl_eq (a.trans b.symm)]; exact Int.le_refl _
theorem cr_sl_sum (T G : Nat → Nat) (R F : Nat → Int) (S : Nat → Bool) (n : Nat) : fb_si (cr_sl T G R F S) n = fb_si (cr_ct T G R S) n + cr_pot T G F (fun v => cr_b (S v)) n := fb_si_add (cr_ct T G R S) (fun e => F e * (cr_b (S (G e)) - cr_b (S (T e)))) n
/-- a set from which nothing more can be moved -/
def cr_tight (T G : Nat → Nat) (R F : Nat → Int) (S : Nat → Bool) (e : Nat) : Prop := (S (T e) = true → S (G e) = false → F e = R e) ∧ (S (T e) = false → S (G e) = true → F e = 0)
theorem cr_weak {T G : Nat → Nat} {R F : Nat → Int} (S : Nat → Bool) {n : Nat} (hF : ∀ e, e < n → 0 ≤ F e ∧ F e ≤ R e) : 0 ≤ fb_si (cr_ct T G R S) n + cr_pot T G F (fun v => cr_b (S v)) n := by
  rw [← cr_sl_sum]
  exact cr_si_nn (fun k hk => cr_sl_nn (hF k hk).1 (hF k hk).2)
theorem cr_tight_sum {T G : Nat → Nat} {R F : Nat → Int} {S : Nat → Bool} {n : Nat} (h : ∀ e, e < n → cr_tight T G R F S e) : fb_si (cr_ct T G R S) n + cr_pot T G F (fun v => cr_b (S v)) n = 0 := by
  rw [← cr_sl_sum]
  refine cr_si_z (fun k hk => ?_)
  obtain ⟨h1, h2⟩ := h k hk
  cases a : S (T k) <;> cases b : S (G k)
  · exact cr_sl_eq (a.trans b.symm)
  · rw [cr_sl_ft a b]; exact h2 a b
  · rw [cr_sl_tf a b, h1 a b]; omega
  · exact cr_sl_eq (a.trans b.symm)
theorem cr_tight_of {T G : Nat → Nat} {R F : Nat → Int} {S : Nat → Bool} {n : Nat} (hF : ∀ e, e < n → 0 ≤ F e ∧ F e ≤ R e) (h : fb_si (cr_ct T G R S) n + cr_pot T G F (fun v => cr_b (S v)) n = 0) : ∀ e, e < n → cr_tight T G R F S e := by
  rw [← cr_sl_sum] at h
  have hz := cr_si_zero (fun k hk => cr_sl_nn (S := S) (T := T) (G := G) (hF k hk).1 (hF k hk).2) h
  intro e he
  have h1 := hz e he
  refine ⟨fun a b => ?_, fun a b => ?_⟩
  · rw [cr_sl_tf a b] at h1; omega
  · rw [cr_sl_ft a b] at h1; exact h1
/-- the lack of a set: what must come in, less what can go out -/
def cr_lt (T G : Nat → Nat) (lo hi : Nat → Int) (S : Nat → Bool) (a : Nat) : Int := if S (G a) = true ∧ S (T a) = false then lo a else if S (T a) = true ∧ S (G a) = false then - hi a else 0
def cr_lk (T G : Nat → Nat) (lo hi : Nat → Int) (S : Nat → Bool) (n : Nat) : Int := fb_si (cr_lt T G lo hi S) n
theorem cr_lt_in {T G : Nat → Nat} {lo hi : Nat → Int} {S : Nat → Bool} {a : Nat} (h1 : S (T a) = false) (h2 : S (G a) = true) : cr_lt T G lo hi S a = lo a := if_pos ⟨h2, h1⟩
theorem cr_lt_out {T G : Nat → Nat} {lo hi : Nat → Int} {S : Nat → Bool} {a : Nat} (h1 : S (T a) = true) (h2 : S (G a) = false) : cr_lt T G lo hi S a = - hi a := by
  unfold cr_lt
  rw [if_neg (fun q => by rw [h2] at q; exact absurd q.1 (by decide)), if_pos ⟨h1, h2⟩]
theorem cr_lt_eq {T G : Nat → Nat} {lo hi : Nat → Int} {S : Nat → Bool} {a : Nat} (h : S (T a) = S (G a)) : cr_lt T G lo hi S a = 0 := by
  unfold cr_lt
  rw [if_neg (fun q => by rw [← h, q.2] at q; exact absurd q.1 (by decide)), if_neg (fun q => by rw [h, q.2] at q; exact absurd q.1 (by decide))]
theorem cr_lk_cong {T G T' G' : Nat → Nat} {lo hi lo' hi' : Nat → Int} {S S' : Nat → Bool} {n : Nat} (h : ∀ a, a < n → S (T a) = S' (T' a) ∧ S (G a) = S' (G' a) ∧ lo a = lo' a ∧ hi a = hi' a) : cr_lk T G lo hi S n = cr_lk T' G' lo' hi' S' n := by
  refine fb_si_cong (fun a ha => ?_)
  obtain ⟨h1, h2, h3, h4⟩ := h a ha
  unfold cr_lt
  rw [h1, h2, h3, h4]
theorem cr_lk_empty {T G : Nat → Nat} {lo hi : Nat → Int} {S : Nat → Bool} {n : Nat} (h : ∀ a, a < n → S (T a) = S (G a)) : cr_lk T G lo hi S n = 0 := cr_si_z (fun a ha => cr_lt_eq (h a ha))
/-- an arc's term against what it carries -/
theorem cr_term_le {T G : Nat → Nat} {lo hi x : Nat → Int} {S : Nat → Bool} {a : Nat} (h1 : lo a ≤ x a) (h2 : x a ≤ hi a) : cr_lt T G lo hi S a ≤ x a * (cr_b (S (G a)) - cr_b (S (T a))) := by
  cases p : S (T a) <;> cases q : S (G a)
  · rw [cr_lt_eq (p.trans q.symm), cr_b_f rfl]; omega
  · rw [cr_lt_in p q, cr_b_f rfl, cr_b_t rfl]; omega
  · rw [cr_lt_out p q, cr_b_f rfl, cr_b_t rfl]; omega
  · rw [cr_lt_eq (p.trans q.symm), cr_b_t rfl]; omega
theorem cr_term_eq {T G : Nat → Nat} {lo hi x : Nat → Int} {S : Nat → Bool} {a : Nat} (h1 : S (T a) = true → S (G a) = false → x a = hi a) (h2 : S (T a) = false → S (G a) = true → x a = lo a) : cr_lt T G lo hi S a = x a * (cr_b (S (G a)) - cr_b (S (T a))) := by
  cases p : S (T a) <;> cases q : S (G a)
  · rw [cr_lt_eq (p.trans q.symm), cr_b_f rfl]; omega
  · rw [cr_lt_in p q, cr_b_f rfl, cr_b_t rfl, h2 p q]; omega
  · rw [cr_lt_out p q, cr_b_f rfl, cr_b_t rfl, h1 p q]; omega
  · rw [cr_lt_eq (p.trans q.symm), cr_b_t rfl]; omega
/-- a circulation within bounds: no set lacks anything -/
theorem cr_circ_le {T G : Nat → Nat} {lo hi x : Nat → Int} (S : Nat → Bool) {n : Nat} (hx : ∀ a, a < n → lo a ≤ x a ∧ x a ≤ hi a) (hc : ∀ p : Nat → Int, cr_pot T G x p n = 0) : cr_lk T G lo hi S n ≤ 0 := by
  rw [← hc (fun v => cr_b (S v))]
  exact cr_si_le (fun a ha => cr_term_le (hx a ha).1 (hx a ha).2)
/-- a set closed but for one arc k: its lack is what k is short of -/
theorem cr_circ_one {T G : Nat → Nat} {lo hi x : Nat → Int} {S : Nat → Bool} {n k : Nat} (hk : k < n) (h : ∀ a, a < n → a ≠ k → (S (T a) = true → S (G a) = false → x a = hi a) ∧ (S (T a) = false → S (G a) = true → x a = lo a)) (hc : ∀ p : Nat → Int, cr_pot T G x p n = 0) : cr_lk T G lo hi S n = cr_lt T G lo hi S k - x k * (cr_b (S (G k)) - cr_b (S (T k))) := by
  have h1 := cr_si_one (f := cr_lt T G lo hi S) (g := fun a => x a * (cr_b (S (G a)) - cr_b (S (T a)))) hk (fun a ha hne => cr_term_eq (h a ha hne).1 (h a ha hne).2)
  have h2 : fb_si (fun a => x a * (cr_b (S (G a)) - cr_b (S (T a)))) n = 0 := hc (fun v => cr_b (S v))
  rw [h2] at h1
  unfold cr_lk
  rw [h1]
  omega
end
section
/-! PLAIN: the search (a queue, the edge by which a vertex was reached) and a push along its way -/
theorem cr_lt0 {x : Int32} : x < 0 ↔ x.toInt < 0 := Int32.lt_iff_toInt_lt
theorem cr_ge0 {x : Int32} : 0 ≤ x ↔ 0 ≤ x.toInt := Int32.le_iff_toInt_le
theorem cr_gt0 {x : Int32} : 0 < x ↔ 0 < x.toInt := Int32.lt_iff_toInt_lt
theorem cr_le0 {x : Int32} : x ≤ 0 ↔ x.toInt ≤ 0 := Int32.le_iff_toInt_le
theorem cr_inc (i : Nat) : nI i + Int32.ofInt 1 = nI (i + 1) := nI_1 i
theorem cr_m1 : (-1 : Int32).toInt = -1 := by decide
theorem cr_nI_ge (n : Nat) (h : n < 2 ^ 31) : 0 ≤ (nI n).toInt := by rw [nI_toInt h]; omega
/-- the ends of the 25 edges -/
def cr_Ends (T G : Nat → Nat) (ta he : Nat → Int32) : Prop := ∀ e, e < 25 → ta e = nI (T e) ∧ he e = nI (G e) ∧ T e < 8 ∧ G e < 8
/-- what they carry -/
def cr_Val (T G : Nat → Nat) (ro fl : Nat → Int32) : Prop := ∀ e, e < 25 → 0 ≤ (fl e).toInt ∧ (fl e).toInt ≤ (ro e).toInt ∧ (ro e).toInt ≤ 240 ∧ (T e = G e → (ro e).toInt = 0)
/-- b tells a step from u to v -/
def cr_Stp (T G : Nat → Nat) (ro fl : Nat → Int32) (wo b : Int32) (u v : Nat) : Prop := ∃ e, e < 25 ∧ nI e ≠ wo ∧ ((b = nI (2 * e) ∧ T e = u ∧ G e = v ∧ (fl e).toInt < (ro e).toInt) ∨ (b = nI (2 * e + 1) ∧ G e = u ∧ T e = v ∧ 0 < (fl e).toInt))
def cr_Tree (T G : Nat → Nat) (ro fl : Nat → Int32) (wo : Int32) (x : Nat) (bY : Nat → Int32) (rk : Nat → Nat) : Prop := ∀ v, v < 8 → v ≠ x → 0 ≤ (bY v).toInt → rk v < 8 ∧ ∃ u, u < 8 ∧ 0 ≤ (bY u).toInt ∧ rk u < rk v ∧ cr_Stp T G ro fl wo (bY v) u v
/-- the edge e from u has been looked at -/
def cr_Clo (T G : Nat → Nat) (ro fl : Nat → Int32) (wo : Int32) (bY : Nat → Int32) (e u : Nat) : Prop := nI e ≠ wo → (T e = u → (fl e).toInt < (ro e).toInt → 0 ≤ (bY (G e)).toInt) ∧ (G e = u → 0 < (fl e).toInt → 0 ≤ (bY (T e)).toInt)
def cr_cn (bY : Nat → Int32) (v : Nat) : Bool := decide (0 ≤ (bY v).toInt)
def cr_Bfs (T G : Nat → Nat) (ro fl : Nat → Int32) (wo : Int32) (x : Nat) (bY qu : Nat → Int32) (rk : Nat → Nat) (en : Nat) : Prop :=
  fb_ct (cr_cn bY) 8 = en ∧ x < 8 ∧ bY x = 50 ∧ (∀ v, v < 8 → 0 ≤ (bY v).toInt → rk v < en ∧ qu (rk v) = nI v) ∧ (∀ j, j < en → ∃ v, v < 8 ∧ qu j = nI v ∧ 0 ≤ (bY v).toInt ∧ rk v = j) ∧ cr_Tree T G ro fl wo x bY rk
theorem cr_Bfs_le {T G : Nat → Nat} {ro fl : Nat → Int32} {wo : Int32} {x : Nat} {bY qu : Nat → Int32} {rk : Nat → Nat} {en : Nat} (h : cr_Bfs T G ro fl wo x bY qu rk en) : en ≤ 8 := by
  rw [← h.1]; exact fb_ct_le _ 8
theorem cr_50 : (50 : Int32).toInt = 50 := by decide
/-- the start of a search -/
theorem cr_Bfs_0 {T G : Nat → Nat} {ro fl : Nat → Int32} {wo : Int32} {x : Nat} {bY qu : Nat → Int32} (hx : x < 8) (hb : ∀ v, v < 8 → bY v = -1) : cr_Bfs T G ro fl wo x (upd bY x 50) (upd qu 0 (nI x)) (fun _ => 0) 1 := by
  have hx0 : upd bY x 50 x = 50 := pk_us
  have hne : ∀ v, v < 8 → v ≠ x → upd bY x 50 v = -1 := fun v hv h => by rw [pk_un h]; exact hb v hv
  have hge : ∀ v, v < 8 → 0 ≤ (upd bY x 50 v).toInt → v = x := by
    intro v hv h
    by_cases e : v = x
    · exact e
    · rw [hne v hv e, cr_m1] at h; omega
  refine ⟨?_, hx, hx0, ?_, ?_, ?_⟩
  · have h1 := fb_ct_upd (cr_cn bY) true hx
    have h2 : fb_ct (cr_cn bY) 8 = 0 := fb_ct_zero.mpr (fun k hk => by unfold cr_cn; rw [hb k hk, cr_m1]; decide)
    have h3 : cr_cn bY x = false := by unfold cr_cn; rw [hb x hx, cr_m1]; decide
    have h4 : fb_ct (cr_cn (upd bY x 50)) 8 = fb_ct (fun k => if k = x then true else cr_cn bY k) 8 := by
      refine fb_ct_cong (fun k _ => ?_)
      by_cases e : k = x
      · subst e
        rw [if_pos rfl]
        unfold cr_cn
        rw [hx0]
        decide
      · rw [if_neg e]
        unfold cr_cn
        rw [pk_un e]
    rw [h4]
    rw [h2, h3] at h1
    simpa using h1
  · intro v hv h
    have e := hge v hv h
    subst e
    exact ⟨Nat.lt_succ_self 0, pk_us⟩
  · intro j hj
    have e : j = 0 := by omega
    subst e
    exact ⟨x, hx, pk_us, by rw [hx0, cr_50]; omega, rfl⟩
  · intro v hv hvx h
    exact absurd (hge v hv h) hvx
/-- a vertex is reached -/
theorem cr_Bfs_add {T G : Nat → Nat} {ro fl : Nat → Int32} {wo : Int32} {x : Nat} {bY qu : Nat → Int32} {rk : Nat → Nat} {en : Nat} (h : cr_Bfs T G ro fl wo x bY qu rk en) {w v : Nat} {b : Int32} (hw : w < 8) (hbw : (bY w).toInt < 0) (hv : v < 8) (hbv : 0 ≤ (bY v).toInt) (hb : 0 ≤ b.toInt) (hs : cr_Stp T G ro fl wo b v w) :
    en < 8 ∧ cr_Bfs T G ro fl wo x (upd bY w b) (upd qu en (nI w)) (fun z => if z = w then en else rk z) (en + 1) := by
  obtain ⟨h1, h2, h3, h4, h5, h6⟩ := h
  have hct : fb_ct (cr_cn (upd bY w b)) 8 = en + 1 := by
    have q1 := fb_ct_upd (cr_cn bY) true hw
    have q3 : cr_cn bY w = false := by unfold cr_cn; exact decide_eq_false (by omega)
    have q4 : fb_ct (cr_cn (upd bY w b)) 8 = fb_ct (fun k => if k = w then true else cr_cn bY k) 8 := by
      refine fb_ct_cong (fun k _ => ?_)
      by_cases e : k = w
      · subst e
        rw [if_pos rfl]
        unfold cr_cn
        rw [pk_us]
        exact decide_eq_true hb
      · rw [if_neg e]
        unfold cr_cn
        rw [pk_un e]
    rw [q4]
    rw [h1, q3] at q1
    simpa using q1
  have hen : en < 8 := by
    have := fb_ct_le (cr_cn (upd bY w b)) 8
    omega
  have hxw : x ≠ w := by
    intro e
    subst e
    rw [h3, cr_50] at hbw
    omega
  refine ⟨hen, hct, h2, by rw [pk_un hxw]; exact h3, ?_, ?_, ?_⟩
  · intro z hz hbz
    by_cases e : z = w
    · subst e
      simp only [if_true]
      exact ⟨by omega, pk_us⟩
    · simp only [if_neg e]
      rw [pk_un e] at hbz
      obtain ⟨a1, a2⟩ := h4 z hz hbz
      exact ⟨by omega, by rw [pk_un (by omega)]; exact a2⟩
  · intro j hj
    by_cases e : j = en
    · subst e
      exact ⟨w, hw, pk_us, by rw [pk_us]; exact hb, if_pos rfl⟩
    · obtain ⟨z, a1, a2, a3, a4⟩ := h5 j (by omega)
      have hzw : z ≠ w := by
        intro e2
        subst e2
        omega
      exact ⟨z, a1, by rw [pk_un e]; exact a2, by rw [pk_un hzw]; exact a3, (if_neg hzw).trans a4⟩
  · intro z hz hzx hbz
    by_cases e : z = w
    · subst e
      simp only [if_true]
      have hvz : v ≠ z := by
        intro e2
        subst e2
        omega
      refine ⟨hen, v, hv, by rw [pk_un hvz]; exact hbv, ?_, by rw [pk_us]; exact hs⟩
      rw [if_neg hvz]
      exact (h4 v hv hbv).1
    · rw [pk_un e] at hbz ⊢
      simp only [if_neg e]
      obtain ⟨a0, u, a1, a2, a3, a4⟩ := h6 z hz hzx hbz
      have huw : u ≠ w := by
        intro e2
        subst e2
        omega
      exact ⟨a0, u, a1, by rw [pk_un huw]; exact a2, by rw [if_neg huw]; exact a3, a4⟩
theorem cr_Clo_grow {T G : Nat → Nat} {ro fl : Nat → Int32} {wo : Int32} {bY : Nat → Int32} {e u w : Nat} {b : Int32} (h : cr_Clo T G ro fl wo bY e u) (hb : 0 ≤ b.toInt) : cr_Clo T G ro fl wo (upd bY w b) e u := by
  have hg : ∀ z, 0 ≤ (bY z).toInt → 0 ≤ (upd bY w b z).toInt := by
    intro z hz
    by_cases q : z = w
    · subst q; rw [pk_us]; exact hb
    · rw [pk_un q]; exact hz
  intro hn
  obtain ⟨h1, h2⟩ := h hn
  exact ⟨fun a c => hg _ (h1 a c), fun a c => hg _ (h2 a c)⟩
/-- what a search answers -/
def cr_FW (T G : Nat → Nat) (ro fl : Nat → Int32) (wo : Int32) (x y : Nat) (r : Int32) (bY : Nat → Int32) : Prop :=
  (r = if 0 ≤ (bY y).toInt then 1 else 0) ∧ bY x = 50 ∧ (∃ rk, cr_Tree T G ro fl wo x bY rk) ∧ ∀ u, u < 8 → 0 ≤ (bY u).toInt → ∀ e, e < 25 → cr_Clo T G ro fl wo bY e u
/-- the way from v back to x, every step with room for amt -/
def cr_okp (T G : Nat → Nat) (ro fl : Nat → Int32) (wo : Int32) (x : Nat) (bY : Nat → Int32) (rk : Nat → Nat) (amt : Int) : Nat → Nat → Prop
  | 0, v => v = x
  | n + 1, v => v = x ∨ (v ≠ x ∧ ∃ u e, u < 8 ∧ e < 25 ∧ nI e ≠ wo ∧ ((bY v = nI (2 * e) ∧ T e = u ∧ G e = v ∧ amt ≤ (ro e).toInt - (fl e).toInt) ∨ (bY v = nI (2 * e + 1) ∧ G e = u ∧ T e = v ∧ amt ≤ (fl e).toInt)) ∧ rk u < rk v ∧ cr_okp T G ro fl wo x bY rk amt n u)
/-- flows as whole numbers -/
abbrev cr_i (f : Nat → Int32) : Nat → Int := fun k => (f k).toInt
abbrev cr_n (f : Nat → Int32) : Nat → Nat := fun k => (f k).toNatClampNeg
/-- the flow f behind some steps of a push of amt from v to y -/
def cr_Psh (T G : Nat → Nat) (ro fl : Nat → Int32) (wo : Int32) (rk : Nat → Nat) (amt : Int) (y v : Nat) (f : Nat → Int32) : Prop :=
  cr_Val T G ro f ∧ (∀ e, e < 25 → nI e = wo → f e = fl e) ∧ (∀ p : Nat → Int, cr_pot T G (cr_i f) p 25 = cr_pot T G (cr_i fl) p 25 + amt * (p y - p v)) ∧ ∀ e, e < 25 → rk (T e) ≤ rk v → rk (G e) ≤ rk v → f e = fl e
theorem cr_Psh_0 {T G : Nat → Nat} {ro fl : Nat → Int32} {wo : Int32} {rk : Nat → Nat} {amt : Int} {y : Nat} (h : cr_Val T G ro fl) : cr_Psh T G ro fl wo rk amt y y fl := by
  refine ⟨h, fun _ _ _ => rfl, fun p => ?_, fun _ _ _ _ => rfl⟩
  rw [Int.sub_self, Int.mul_zero]
  omega
theorem cr_Psh_step {T G : Nat → Nat} {ro fl : Nat → Int32} {wo : Int32} {rk : Nat → Nat} {amt : Int} {y v u e : Nat} {f : Nat → Int32} {z : Int32} (h : cr_Psh T G ro fl wo rk amt y v f) (he : e < 25) (hwo : nI e ≠ wo) (hrk : rk u < rk v)
    (hz : (T e = u ∧ G e = v ∧ z.toInt = (f e).toInt + amt ∧ 0 ≤ amt ∧ amt ≤ (ro e).toInt - (fl e).toInt) ∨ (G e = u ∧ T e = v ∧ z.toInt = (f e).toInt - amt ∧ 0 ≤ amt ∧ amt ≤ (fl e).toInt)) : cr_Psh T G ro fl wo rk amt y u (upd f e z) := by
  obtain ⟨h1, h2, h3, h4⟩ := h
  have hfe : f e = fl e := by
    rcases hz with ⟨a, b, -⟩ | ⟨a, b, -⟩
    · exact h4 e he (by rw [a]; omega) (by rw [b]; exact Nat.le_refl _)
    · exact h4 e he (by rw [b]; exact Nat.le_refl _) (by rw [a]; omega)
  refine ⟨?_, ?_, ?_, ?_⟩
  · intro e2 he2
    by_cases q : e2 = e
    · subst q
      rw [pk_us]
      obtain ⟨a1, a2, a3, a4⟩ := h1 e2 he2
      rw [hfe] at a1 a2 hz
      rcases hz with ⟨-, -, c, d0, d⟩ | ⟨-, -, c, d0, d⟩
      · exact ⟨by omega, by omega, a3, a4⟩
      · exact ⟨by omega, by omega, a3, a4⟩
    · rw [pk_un q]
      exact h1 e2 he2
  · intro e2 he2 hw2
    have q : e2 ≠ e := fun q => hwo (by rw [← q]; exact hw2)
    rw [pk_un q]
    exact h2 e2 he2 hw2
  · intro p
    rw [cr_pot_upd (F := cr_i f) (F' := cr_i (upd f e z)) he (fun i _ hne => by show (upd f e z i).toInt = (f i).toInt; rw [pk_un hne]), h3 p]
    have e1 : cr_i (upd f e z) e = z.toInt := by show (upd f e z e).toInt = z.toInt; rw [pk_us]
    rw [e1]
    rcases hz with ⟨a, b, c, -⟩ | ⟨a, b, c, -⟩
    · rw [a, b, show z.toInt - cr_i f e = amt by show z.toInt - (f e).toInt = amt; omega, Int.mul_sub, Int.mul_sub, Int.mul_sub]
      omega
    · rw [a, b, show z.toInt - cr_i f e = -amt by show z.toInt - (f e).toInt = -amt; omega, Int.neg_mul, Int.mul_sub, Int.mul_sub, Int.mul_sub]
      omega
  · intro e2 he2 ht hg
    by_cases q : e2 = e
    · subst q
      rcases hz with ⟨a, b, -⟩ | ⟨a, b, -⟩
      · rw [b] at hg; omega
      · rw [b] at ht; omega
    · rw [pk_un q]
      exact h4 e2 he2 (by omega) (by omega)
/-- a set from which no way leads on, the edge wo left aside -/
def cr_Stop (T G : Nat → Nat) (ro fl : Nat → Int32) (wo : Int32) (x y : Nat) : Prop := ∃ S : Nat → Bool, S x = true ∧ S y = false ∧ ∀ e, e < 25 → nI e ≠ wo → cr_tight T G (cr_i ro) (cr_i fl) S e
theorem cr_FW_tight {T G : Nat → Nat} {ta he ro fl : Nat → Int32} {wo : Int32} {bY : Nat → Int32} (hE : cr_Ends T G ta he) (hV : cr_Val T G ro fl) (h4 : ∀ u, u < 8 → 0 ≤ (bY u).toInt → ∀ e, e < 25 → cr_Clo T G ro fl wo bY e u) : ∀ e, e < 25 → nI e ≠ wo → cr_tight T G (cr_i ro) (cr_i fl) (cr_cn bY) e := by
  intro e he hn
  refine ⟨fun a b => ?_, fun a b => ?_⟩
  · have a1 : 0 ≤ (bY (T e)).toInt := of_decide_eq_true a
    have b1 : ¬ 0 ≤ (bY (G e)).toInt := of_decide_eq_false b
    have c1 : ¬ (fl e).toInt < (ro e).toInt := fun q => b1 ((h4 (T e) (hE e he).2.2.1 a1 e he hn).1 rfl q)
    have c2 := (hV e he).2.1
    show (fl e).toInt = (ro e).toInt
    omega
  · have a1 : ¬ 0 ≤ (bY (T e)).toInt := of_decide_eq_false a
    have b1 : 0 ≤ (bY (G e)).toInt := of_decide_eq_true b
    have c1 : ¬ 0 < (fl e).toInt := fun q => a1 ((h4 (G e) (hE e he).2.2.2 b1 e he hn).2 rfl q)
    have c2 := (hV e he).1
    show (fl e).toInt = 0
    omega
theorem cr_FW_stop {T G : Nat → Nat} {ta he ro fl : Nat → Int32} {wo : Int32} {x y : Nat} {r : Int32} {bY : Nat → Int32} (hE : cr_Ends T G ta he) (hV : cr_Val T G ro fl) (h : cr_FW T G ro fl wo x y r bY) (hr : r = 0) : cr_Stop T G ro fl wo x y := by
  obtain ⟨h1, h2, -, h4⟩ := h
  have hy : ¬ 0 ≤ (bY y).toInt := by
    intro q
    rw [if_pos q] at h1
    rw [h1] at hr
    exact absurd hr (by decide)
  refine ⟨cr_cn bY, ?_, decide_eq_false hy, cr_FW_tight hE hV h4⟩
  unfold cr_cn
  rw [h2, cr_50]
  decide
/-- what a search reached lies within every closed set with x -/
theorem cr_FW_in {T G : Nat → Nat} {ro fl : Nat → Int32} {wo : Int32} {x : Nat} {bY : Nat → Int32} {rk : Nat → Nat} (hT : cr_Tree T G ro fl wo x bY rk) {S : Nat → Bool} (hx : S x = true) (hS : ∀ e, e < 25 → cr_tight T G (cr_i ro) (cr_i fl) S e) : ∀ n v, v < 8 → 0 ≤ (bY v).toInt → rk v ≤ n → S v = true := by
  intro n
  induction n with
  | zero =>
    intro v hv hb hr
    by_cases e : v = x
    · rw [e]; exact hx
    · obtain ⟨-, u, -, -, a, -⟩ := hT v hv e hb
      omega
  | succ n ih =>
    intro v hv hb hr
    by_cases e : v = x
    · rw [e]; exact hx
    · obtain ⟨-, u, hu, hbu, a, ed, hed, -, hs⟩ := hT v hv e hb
      have hSu := ih u hu hbu (by omega)
      cases hSv : S v with
      | true => rfl
      | false =>
        obtain ⟨t1, t2⟩ := hS ed hed
        rcases hs with ⟨-, c1, c2, c3⟩ | ⟨-, c1, c2, c3⟩
        · have := t1 (by rw [c1]; exact hSu) (by rw [c2]; exact hSv)
          have : (fl ed).toInt = (ro ed).toInt := this
          omega
        · have := t2 (by rw [c2]; exact hSv) (by rw [c1]; exact hSu)
          have : (fl ed).toInt = 0 := this
          omega
/-- what moveAll answers -/
def cr_MA (T G : Nat → Nat) (ro fl : Nat → Int32) (wo : Int32) (x y : Nat) (most r : Int32) (f : Nat → Int32) : Prop :=
  0 ≤ r.toInt ∧ r.toInt ≤ most.toInt ∧ cr_Val T G ro f ∧ (∀ e, e < 25 → nI e = wo → f e = fl e) ∧ (∀ p : Nat → Int, cr_pot T G (cr_i f) p 25 = cr_pot T G (cr_i fl) p 25 + r.toInt * (p y - p x)) ∧ (r = most ∨ cr_Stop T G ro f wo x y)
end
section
/-! PLAIN: the network that build makes, its cuts, and the lacks of the sets -/
def cr_pos (z : Int) : Int := if 0 < z then z else 0
/-- what a vertex has over: least amounts in, less least amounts out -/
def cr_ov (A B : Nat → Nat) (lo : Nat → Int) (v n : Nat) : Int := fb_si (fun a => (if B a = v then lo a else 0) - (if A a = v then lo a else 0)) n
/-- the arcs of the class -/
def cr_Arcs (cnt : Nat) (fr to lo hi : Nat → Int32) : Prop := cnt ≤ 12 ∧ ∀ a, a < cnt → fr a = nI (cr_n fr a) ∧ to a = nI (cr_n to a) ∧ cr_n fr a < 6 ∧ cr_n to a < 6 ∧ cr_n fr a ≠ cr_n to a ∧ 0 ≤ cr_i lo a ∧ cr_i lo a ≤ cr_i hi a ∧ cr_i hi a ≤ 20
/-- the built network, its extra edge from x12 to y12 with room r12 -/
def cr_Bt (cnt : Nat) (fr to lo hi ta he ro : Nat → Int32) (x12 y12 : Nat) (r12 : Int) : Prop :=
  (∀ a, a < cnt → ta a = fr a ∧ he a = to a ∧ cr_i ro a = cr_i hi a - cr_i lo a) ∧ (∀ a, cnt ≤ a → a < 12 → ta a = nI 0 ∧ he a = nI 0 ∧ cr_i ro a = 0) ∧ (ta 12 = nI x12 ∧ he 12 = nI y12 ∧ cr_i ro 12 = r12) ∧ (∀ v, v < 6 → ta (13 + v) = nI 6 ∧ he (13 + v) = nI v ∧ cr_i ro (13 + v) = cr_pos (cr_ov (cr_n fr) (cr_n to) (cr_i lo) v cnt)) ∧ (∀ v, v < 6 → ta (19 + v) = nI v ∧ he (19 + v) = nI 7 ∧ cr_i ro (19 + v) = cr_pos (- cr_ov (cr_n fr) (cr_n to) (cr_i lo) v cnt))
/-- the extra edge is a fair one -/
def cr_X (x12 y12 : Nat) (r12 : Int) : Prop := x12 < 6 ∧ y12 < 6 ∧ 0 ≤ r12 ∧ r12 ≤ 240 ∧ (x12 = y12 → r12 = 0)
theorem cr_ov_rng {A B : Nat → Nat} {lo : Nat → Int} {v n : Nat} (hn : n ≤ 12) (h : ∀ a, a < n → 0 ≤ lo a ∧ lo a ≤ 20) : -240 ≤ cr_ov A B lo v n ∧ cr_ov A B lo v n ≤ 240 := by
  have h1 := fb_si_bound (f := fun a => (if B a = v then lo a else 0) - (if A a = v then lo a else 0)) (c := 20) (by decide) (n := n) (fun a ha => by
    have := h a ha
    by_cases c1 : B a = v <;> by_cases c2 : A a = v <;> simp [c1, c2] <;> omega)
  have e : cr_ov A B lo v n = fb_si (fun a => (if B a = v then lo a else 0) - (if A a = v then lo a else 0)) n := rfl
  rw [e]
  omega
theorem cr_mite (c : Prop) [Decidable c] (x y : Int) : y * (if c then x else 0) = if c then x * y else 0 := by
  by_cases h : c
  · rw [if_pos h, if_pos h, Int.mul_comm]
  · rw [if_neg h, if_neg h, Int.mul_zero]
theorem cr_ov_pot {A B : Nat → Nat} {lo : Nat → Int} {n : Nat} (h : ∀ a, a < n → A a < 6 ∧ B a < 6) (p : Nat → Int) : fb_si (fun v => cr_ov A B lo v n * p v) 6 = fb_si (fun a => lo a * (p (B a) - p (A a))) n := by
  have h1 : ∀ v, cr_ov A B lo v n * p v = fb_si (fun a => (if B a = v then lo a * p v else 0) - (if A a = v then lo a * p v else 0)) n := by
    intro v
    unfold cr_ov
    rw [Int.mul_comm, ← fb_si_mul]
    refine fb_si_cong (fun a _ => ?_)
    rw [Int.mul_sub, cr_mite, cr_mite]
  rw [fb_si_cong (fun v _ => h1 v), cr_si_swap]
  refine fb_si_cong (fun a ha => ?_)
  have h2 := fb_si_sub (fun v => if B a = v then lo a * p v else 0) (fun v => if A a = v then lo a * p v else 0) 6
  rw [cr_si_pick (fun v => lo a * p v) (h a ha).2, cr_si_pick (fun v => lo a * p v) (h a ha).1] at h2
  rw [Int.mul_sub]
  exact h2
theorem cr_need_rng {cnt : Nat} {fr to lo hi ta he ro : Nat → Int32} {x12 y12 : Nat} {r12 : Int} (hA : cr_Arcs cnt fr to lo hi) (hB : cr_Bt cnt fr to lo hi ta he ro x12 y12 r12) : (∀ v, v < 6 → 0 ≤ cr_i ro (13 + v) ∧ cr_i ro (13 + v) ≤ 240) ∧ (∀ v, v < 6 → 0 ≤ cr_i ro (19 + v) ∧ cr_i ro (19 + v) ≤ 240) := by
  have hr : ∀ v, -240 ≤ cr_ov (cr_n fr) (cr_n to) (cr_i lo) v cnt ∧ cr_ov (cr_n fr) (cr_n to) (cr_i lo) v cnt ≤ 240 := fun v => cr_ov_rng hA.1 (fun a ha => by have := hA.2 a ha; omega)
  refine ⟨fun v hv => ?_, fun v hv => ?_⟩
  · rw [(hB.2.2.2.1 v hv).2.2]
    have := hr v
    unfold cr_pos
    split <;> omega
  · rw [(hB.2.2.2.2 v hv).2.2]
    have := hr v
    unfold cr_pos
    split <;> omega
theorem cr_n_of {f : Nat → Int32} {e v : Nat} (h : f e = nI v) (hv : v < 2 ^ 31) : cr_n f e = v := by
  show (f e).toNatClampNeg = v
  rw [h]
  exact nI_clamp hv
/-- every edge is an arc, the extra one, one from the source or one to the sink -/
theorem cr_25 {P : Nat → Prop} (h1 : ∀ a, a < 12 → P a) (h2 : P 12) (h3 : ∀ v, v < 6 → P (13 + v)) (h4 : ∀ v, v < 6 → P (19 + v)) : ∀ e, e < 25 → P e := by
  intro e he
  rcases Nat.lt_or_ge e 12 with q | q
  · exact h1 e q
  · rcases Nat.lt_or_ge e 13 with q2 | q2
    · have : e = 12 := by omega
      rw [this]; exact h2
    · rcases Nat.lt_or_ge e 19 with q3 | q3
      · have := h3 (e - 13) (by omega)
        rwa [show 13 + (e - 13) = e by omega] at this
      · have := h4 (e - 19) (by omega)
        rwa [show 19 + (e - 19) = e by omega] at this
theorem cr_Bt_ends {cnt : Nat} {fr to lo hi ta he ro : Nat → Int32} {x12 y12 : Nat} {r12 : Int} (hA : cr_Arcs cnt fr to lo hi) (hB : cr_Bt cnt fr to lo hi ta he ro x12 y12 r12) (hX : cr_X x12 y12 r12) : cr_Ends (cr_n ta) (cr_n he) ta he := by
  have key : ∀ e u v, ta e = nI u → he e = nI v → u < 8 → v < 8 → (ta e = nI (cr_n ta e) ∧ he e = nI (cr_n he e) ∧ cr_n ta e < 8 ∧ cr_n he e < 8) := by
    intro e u v h1 h2 hu hv
    rw [cr_n_of h1 (by omega), cr_n_of h2 (by omega)]
    exact ⟨h1, h2, hu, hv⟩
  refine cr_25 ?_ ?_ ?_ ?_
  · intro a ha
    by_cases q : a < cnt
    · obtain ⟨b1, b2, -⟩ := hB.1 a q
      obtain ⟨c1, c2, c3, c4, -⟩ := hA.2 a q
      exact key a _ _ (b1.trans c1) (b2.trans c2) (by omega) (by omega)
    · obtain ⟨b1, b2, -⟩ := hB.2.1 a (by omega) ha
      exact key a _ _ b1 b2 (by decide) (by decide)
  · obtain ⟨b1, b2, -⟩ := hB.2.2.1
    exact key 12 _ _ b1 b2 (by have := hX.1; omega) (by have := hX.2.1; omega)
  · intro v hv
    obtain ⟨b1, b2, -⟩ := hB.2.2.2.1 v hv
    exact key _ _ _ b1 b2 (by decide) (by omega)
  · intro v hv
    obtain ⟨b1, b2, -⟩ := hB.2.2.2.2 v hv
    exact key _ _ _ b1 b2 (by omega) (by decide)
theorem cr_Bt_val0 {cnt : Nat} {fr to lo hi ta he ro fl : Nat → Int32} {x12 y12 : Nat} {r12 : Int} (hA : cr_Arcs cnt fr to lo hi) (hB : cr_Bt cnt fr to lo hi ta he ro x12 y12 r12) (hX : cr_X x12 y12 r12) (h0 : ∀ e, e < 25 → fl e = 0) : cr_Val (cr_n ta) (cr_n he) ro fl := by
  have hz : ∀ e, e < 25 → (fl e).toInt = 0 := fun e he => by rw [h0 e he]; rfl
  obtain ⟨n1, n2⟩ := cr_need_rng hA hB
  refine cr_25 ?_ ?_ ?_ ?_
  · intro a ha
    have z := hz a (by omega)
    by_cases q : a < cnt
    · obtain ⟨b1, b2, b3⟩ := hB.1 a q
      obtain ⟨c1, c2, c3, c4, c5, c6, c7, c8⟩ := hA.2 a q
      have b3 : (ro a).toInt = cr_i hi a - cr_i lo a := b3
      refine ⟨by omega, by omega, by omega, fun h => ?_⟩
      have e1 : cr_n ta a = cr_n fr a := by show (ta a).toNatClampNeg = _; rw [b1]
      have e2 : cr_n he a = cr_n to a := by show (he a).toNatClampNeg = _; rw [b2]
      exact absurd (e1.symm.trans (h.trans e2)) c5
    · obtain ⟨b1, b2, b3⟩ := hB.2.1 a (by omega) ha
      have b3 : (ro a).toInt = 0 := b3
      exact ⟨by omega, by omega, by omega, fun _ => b3⟩
  · have z := hz 12 (by omega)
    obtain ⟨b1, b2, b3⟩ := hB.2.2.1
    obtain ⟨x1, x2, x3, x4, x5⟩ := hX
    have b3 : (ro 12).toInt = r12 := b3
    refine ⟨by omega, by omega, by omega, fun h => ?_⟩
    rw [cr_n_of b1 (by omega), cr_n_of b2 (by omega)] at h
    rw [b3]
    exact x5 h
  · intro v hv
    have z := hz (13 + v) (by omega)
    obtain ⟨b1, b2, b3⟩ := hB.2.2.2.1 v hv
    have n := n1 v hv
    have n : 0 ≤ (ro (13 + v)).toInt ∧ (ro (13 + v)).toInt ≤ 240 := n
    refine ⟨by omega, by omega, by omega, fun h => ?_⟩
    rw [cr_n_of b1 (by omega), cr_n_of b2 (by omega)] at h
    omega
  · intro v hv
    have z := hz (19 + v) (by omega)
    obtain ⟨b1, b2, b3⟩ := hB.2.2.2.2 v hv
    have n := n2 v hv
    have n : 0 ≤ (ro (19 + v)).toInt ∧ (ro (19 + v)).toInt ≤ 240 := n
    refine ⟨by omega, by omega, by omega, fun h => ?_⟩
    rw [cr_n_of b1 (by omega), cr_n_of b2 (by omega)] at h
    omega
/-- what the extra edge adds to a cut -/
def cr_e12 (S : Nat → Bool) (x12 y12 : Nat) (r12 : Int) : Int := if S x12 = true ∧ S y12 = false then r12 else 0
def cr_need (ro : Nat → Int32) : Int := fb_si (fun v => cr_i ro (13 + v)) 6
theorem cr_pos_split (z : Int) (b : Bool) : (if b = false then cr_pos z else 0) + (if b = true then cr_pos (-z) else 0) = cr_pos z - z * cr_b b := by
  cases b
  · rw [if_pos rfl, if_neg (show ¬ (false = true) by decide), cr_b_f rfl]
    omega
  · rw [if_neg (show ¬ (true = false) by decide), if_pos rfl, cr_b_t rfl]
    unfold cr_pos
    split <;> split <;> omega
/-- a cut, by the lack of its set -/
theorem cr_cutB {cnt : Nat} {fr to lo hi ta he ro : Nat → Int32} {x12 y12 : Nat} {r12 : Int} (hA : cr_Arcs cnt fr to lo hi) (hB : cr_Bt cnt fr to lo hi ta he ro x12 y12 r12) (hX : cr_X x12 y12 r12) {S : Nat → Bool} (h6 : S 6 = true) (h7 : S 7 = false) :
    fb_si (cr_ct (cr_n ta) (cr_n he) (cr_i ro) S) 25 = cr_need ro - cr_lk (cr_n fr) (cr_n to) (cr_i lo) (cr_i hi) S cnt + cr_e12 S x12 y12 r12 := by
  rw [cr_si_25]
  have t1 : fb_si (cr_ct (cr_n ta) (cr_n he) (cr_i ro) S) 12 = fb_si (cr_ct (cr_n ta) (cr_n he) (cr_i ro) S) cnt := by
    refine cr_si_cut hA.1 (fun a h1 h2 => ?_)
    unfold cr_ct
    rw [(hB.2.1 a h1 h2).2.2]
    split <;> rfl
  have t12 : cr_ct (cr_n ta) (cr_n he) (cr_i ro) S 12 = cr_e12 S x12 y12 r12 := by
    obtain ⟨b1, b2, b3⟩ := hB.2.2.1
    obtain ⟨x1, x2, -⟩ := hX
    unfold cr_ct cr_e12
    rw [cr_n_of b1 (by omega), cr_n_of b2 (by omega), b3]
  have t13 : fb_si (fun v => cr_ct (cr_n ta) (cr_n he) (cr_i ro) S (13 + v)) 6 = fb_si (fun v => if S v = false then cr_pos (cr_ov (cr_n fr) (cr_n to) (cr_i lo) v cnt) else 0) 6 := by
    refine fb_si_cong (fun v hv => ?_)
    obtain ⟨b1, b2, b3⟩ := hB.2.2.2.1 v hv
    unfold cr_ct
    rw [cr_n_of b1 (by omega), cr_n_of b2 (by omega), b3, h6]
    simp
  have t19 : fb_si (fun v => cr_ct (cr_n ta) (cr_n he) (cr_i ro) S (19 + v)) 6 = fb_si (fun v => if S v = true then cr_pos (- cr_ov (cr_n fr) (cr_n to) (cr_i lo) v cnt) else 0) 6 := by
    refine fb_si_cong (fun v hv => ?_)
    obtain ⟨b1, b2, b3⟩ := hB.2.2.2.2 v hv
    unfold cr_ct
    rw [cr_n_of b1 (by omega), cr_n_of b2 (by omega), b3, h7]
    simp
  have t2 : fb_si (fun v => if S v = false then cr_pos (cr_ov (cr_n fr) (cr_n to) (cr_i lo) v cnt) else 0) 6 + fb_si (fun v => if S v = true then cr_pos (- cr_ov (cr_n fr) (cr_n to) (cr_i lo) v cnt) else 0) 6 = cr_need ro - fb_si (fun a => cr_i lo a * (cr_b (S (cr_n to a)) - cr_b (S (cr_n fr a)))) cnt := by
    rw [← fb_si_add, ← cr_ov_pot (A := cr_n fr) (B := cr_n to) (lo := cr_i lo) (fun a ha => ⟨(hA.2 a ha).2.2.1, (hA.2 a ha).2.2.2.1⟩) (fun v => cr_b (S v))]
    unfold cr_need
    rw [← fb_si_sub]
    refine fb_si_cong (fun v hv => ?_)
    (try dsimp only)
    rw [cr_pos_split, (hB.2.2.2.1 v hv).2.2]
  have t3 : fb_si (cr_ct (cr_n ta) (cr_n he) (cr_i ro) S) cnt - fb_si (fun a => cr_i lo a * (cr_b (S (cr_n to a)) - cr_b (S (cr_n fr a)))) cnt = - cr_lk (cr_n fr) (cr_n to) (cr_i lo) (cr_i hi) S cnt := by
    rw [← fb_si_sub]
    have e : - cr_lk (cr_n fr) (cr_n to) (cr_i lo) (cr_i hi) S cnt = (-1) * cr_lk (cr_n fr) (cr_n to) (cr_i lo) (cr_i hi) S cnt := by omega
    rw [e]
    unfold cr_lk
    rw [← fb_si_mul]
    refine fb_si_cong (fun a ha => ?_)
    obtain ⟨b1, b2, b3⟩ := hB.1 a ha
    have e1 : cr_n ta a = cr_n fr a := by show (ta a).toNatClampNeg = _; rw [b1]
    have e2 : cr_n he a = cr_n to a := by show (he a).toNatClampNeg = _; rw [b2]
    unfold cr_ct
    rw [e1, e2, b3]
    cases p : S (cr_n fr a) <;> cases q : S (cr_n to a)
    · rw [cr_lt_eq (p.trans q.symm), cr_b_f rfl]; simp <;> omega
    · rw [cr_lt_in p q, cr_b_f rfl, cr_b_t rfl]; simp <;> omega
    · rw [cr_lt_out p q, cr_b_f rfl, cr_b_t rfl]; simp <;> omega
    · rw [cr_lt_eq (p.trans q.symm), cr_b_t rfl]; simp <;> omega
  rw [t1, t12, t13, t19]
  omega
/-- a flow of m from the source to the sink -/
def cr_Fl (ta he ro fl : Nat → Int32) (m : Int) : Prop := cr_Val (cr_n ta) (cr_n he) ro fl ∧ ∀ p : Nat → Int, cr_pot (cr_n ta) (cr_n he) (cr_i fl) p 25 = m * (p 7 - p 6)
/-- a flow within the rooms, plainly -/
def cr_Flo (ta he ro : Nat → Int32) (F : Nat → Int) (m : Int) : Prop := (∀ e, e < 25 → 0 ≤ F e ∧ F e ≤ cr_i ro e) ∧ ∀ p : Nat → Int, cr_pot (cr_n ta) (cr_n he) F p 25 = m * (p 7 - p 6)
theorem cr_Fl.flo {ta he ro fl : Nat → Int32} {m : Int} (h : cr_Fl ta he ro fl m) : cr_Flo ta he ro (cr_i fl) m := ⟨fun e he => ⟨(h.1 e he).1, (h.1 e he).2.1⟩, h.2⟩
theorem cr_pot67 {ta he : Nat → Int32} {F : Nat → Int} {m : Int} (h : ∀ p : Nat → Int, cr_pot (cr_n ta) (cr_n he) F p 25 = m * (p 7 - p 6)) {S : Nat → Bool} (h6 : S 6 = true) (h7 : S 7 = false) : cr_pot (cr_n ta) (cr_n he) F (fun v => cr_b (S v)) 25 = - m := by
  rw [h]
  simp only [cr_b_t h6, cr_b_f h7]
  omega
theorem cr_lack_le {cnt : Nat} {fr to lo hi ta he ro : Nat → Int32} {F : Nat → Int} {x12 y12 : Nat} {r12 m : Int} (hA : cr_Arcs cnt fr to lo hi) (hB : cr_Bt cnt fr to lo hi ta he ro x12 y12 r12) (hX : cr_X x12 y12 r12) (hF : cr_Flo ta he ro F m) {S : Nat → Bool} (h6 : S 6 = true) (h7 : S 7 = false) : cr_lk (cr_n fr) (cr_n to) (cr_i lo) (cr_i hi) S cnt - cr_e12 S x12 y12 r12 ≤ cr_need ro - m := by
  have h1 := cr_weak (T := cr_n ta) (G := cr_n he) S hF.1
  rw [cr_cutB hA hB hX h6 h7, cr_pot67 hF.2 h6 h7] at h1
  omega
theorem cr_lack_eq {cnt : Nat} {fr to lo hi ta he ro : Nat → Int32} {F : Nat → Int} {x12 y12 : Nat} {r12 m : Int} (hA : cr_Arcs cnt fr to lo hi) (hB : cr_Bt cnt fr to lo hi ta he ro x12 y12 r12) (hX : cr_X x12 y12 r12) (hF : cr_Flo ta he ro F m) {S : Nat → Bool} (h6 : S 6 = true) (h7 : S 7 = false) (ht : ∀ e, e < 25 → cr_tight (cr_n ta) (cr_n he) (cr_i ro) F S e) : cr_lk (cr_n fr) (cr_n to) (cr_i lo) (cr_i hi) S cnt - cr_e12 S x12 y12 r12 = cr_need ro - m := by
  have h1 := cr_tight_sum ht
  rw [cr_cutB hA hB hX h6 h7, cr_pot67 hF.2 h6 h7] at h1
  omega
theorem cr_lack_tight {cnt : Nat} {fr to lo hi ta he ro : Nat → Int32} {F : Nat → Int} {x12 y12 : Nat} {r12 m : Int} (hA : cr_Arcs cnt fr to lo hi) (hB : cr_Bt cnt fr to lo hi ta he ro x12 y12 r12) (hX : cr_X x12 y12 r12) (hF : cr_Flo ta he ro F m) {S : Nat → Bool} (h6 : S 6 = true) (h7 : S 7 = false) (hl : cr_lk (cr_n fr) (cr_n to) (cr_i lo) (cr_i hi) S cnt - cr_e12 S x12 y12 r12 = cr_need ro - m) : ∀ e, e < 25 → cr_tight (cr_n ta) (cr_n he) (cr_i ro) F S e := by
  refine cr_tight_of hF.1 ?_
  rw [cr_cutB hA hB hX h6 h7, cr_pot67 hF.2 h6 h7]
  omega
/-- the whole need is moved: the arcs carry a circulation -/
theorem cr_circ {cnt : Nat} {fr to lo hi ta he ro : Nat → Int32} {F : Nat → Int} {x12 y12 : Nat} {r12 : Int} (hA : cr_Arcs cnt fr to lo hi) (hB : cr_Bt cnt fr to lo hi ta he ro x12 y12 r12) (hX : cr_X x12 y12 r12) (hF : cr_Flo ta he ro F (cr_need ro)) (p : Nat → Int) : cr_pot (cr_n fr) (cr_n to) (fun a => cr_i lo a + F a) p cnt + F 12 * (p y12 - p x12) = 0 := by
  have hs : ∀ v, v < 6 → F (13 + v) = cr_pos (cr_ov (cr_n fr) (cr_n to) (cr_i lo) v cnt) := by
    have ht := cr_lack_tight hA hB hX hF (S := fun v => decide (v = 6)) rfl rfl (by
      have e1 : cr_lk (cr_n fr) (cr_n to) (cr_i lo) (cr_i hi) (fun v => decide (v = 6)) cnt = 0 := cr_lk_empty (fun a ha => by
        obtain ⟨-, -, c3, c4, -⟩ := hA.2 a ha
        rw [decide_eq_false (by omega), decide_eq_false (by omega)])
      have e2 : cr_e12 (fun v => decide (v = 6)) x12 y12 r12 = 0 := if_neg (fun h => by
        have := of_decide_eq_true h.1
        have := hX.1
        omega)
      rw [e1, e2]
      omega)
    intro v hv
    obtain ⟨b1, b2, b3⟩ := hB.2.2.2.1 v hv
    have h1 := (ht (13 + v) (by omega)).1 (by rw [cr_n_of b1 (by omega)]; rfl) (by rw [cr_n_of b2 (by omega)]; exact decide_eq_false (by omega))
    rw [h1, b3]
  have hk : ∀ v, v < 6 → F (19 + v) = cr_pos (- cr_ov (cr_n fr) (cr_n to) (cr_i lo) v cnt) := by
    have ht := cr_lack_tight hA hB hX hF (S := fun v => decide (v < 7)) rfl rfl (by
      have e1 : cr_lk (cr_n fr) (cr_n to) (cr_i lo) (cr_i hi) (fun v => decide (v < 7)) cnt = 0 := cr_lk_empty (fun a ha => by
        obtain ⟨-, -, c3, c4, -⟩ := hA.2 a ha
        rw [decide_eq_true (by omega), decide_eq_true (by omega)])
      have e2 : cr_e12 (fun v => decide (v < 7)) x12 y12 r12 = 0 := if_neg (fun h => by
        have := of_decide_eq_false h.2
        have := hX.2.1
        omega)
      rw [e1, e2]
      omega)
    intro v hv
    obtain ⟨b1, b2, b3⟩ := hB.2.2.2.2 v hv
    have h1 := (ht (19 + v) (by omega)).1 (by rw [cr_n_of b1 (by omega)]; exact decide_eq_true (by omega)) (by rw [cr_n_of b2 (by omega)]; rfl)
    rw [h1, b3]
  have hp : fb_si (fun e => F e * ((if cr_n he e < 6 then p (cr_n he e) else 0) - (if cr_n ta e < 6 then p (cr_n ta e) else 0))) 12 + F 12 * ((if cr_n he 12 < 6 then p (cr_n he 12) else 0) - (if cr_n ta 12 < 6 then p (cr_n ta 12) else 0)) + fb_si (fun v => F (13 + v) * ((if cr_n he (13 + v) < 6 then p (cr_n he (13 + v)) else 0) - (if cr_n ta (13 + v) < 6 then p (cr_n ta (13 + v)) else 0))) 6 + fb_si (fun v => F (19 + v) * ((if cr_n he (19 + v) < 6 then p (cr_n he (19 + v)) else 0) - (if cr_n ta (19 + v) < 6 then p (cr_n ta (19 + v)) else 0))) 6 = cr_need ro * ((if (7 : Nat) < 6 then p 7 else 0) - (if (6 : Nat) < 6 then p 6 else 0)) := (cr_si_25 _).symm.trans (hF.2 (fun v => if v < 6 then p v else 0))
  have t1 : fb_si (fun e => F e * ((if cr_n he e < 6 then p (cr_n he e) else 0) - (if cr_n ta e < 6 then p (cr_n ta e) else 0))) 12 = fb_si (fun a => F a * (p (cr_n to a) - p (cr_n fr a))) cnt := by
    rw [cr_si_cut hA.1 (fun a h1 h2 => by
      obtain ⟨b1, b2, b3⟩ := hB.2.1 a h1 h2
      rw [cr_n_of b1 (by decide), cr_n_of b2 (by decide), Int.sub_self, Int.mul_zero])]
    refine fb_si_cong (fun a ha => ?_)
    obtain ⟨b1, b2, b3⟩ := hB.1 a ha
    obtain ⟨-, -, c3, c4, -⟩ := hA.2 a ha
    have e1 : cr_n ta a = cr_n fr a := by show (ta a).toNatClampNeg = _; rw [b1]
    have e2 : cr_n he a = cr_n to a := by show (he a).toNatClampNeg = _; rw [b2]
    rw [e1, e2, if_pos c3, if_pos c4]
  have t12 : F 12 * ((if cr_n he 12 < 6 then p (cr_n he 12) else 0) - (if cr_n ta 12 < 6 then p (cr_n ta 12) else 0)) = F 12 * (p y12 - p x12) := by
    obtain ⟨b1, b2, b3⟩ := hB.2.2.1
    obtain ⟨x1, x2, -⟩ := hX
    rw [cr_n_of b1 (by omega), cr_n_of b2 (by omega), if_pos x1, if_pos x2]
  have t13 : fb_si (fun v => F (13 + v) * ((if cr_n he (13 + v) < 6 then p (cr_n he (13 + v)) else 0) - (if cr_n ta (13 + v) < 6 then p (cr_n ta (13 + v)) else 0))) 6 + fb_si (fun v => F (19 + v) * ((if cr_n he (19 + v) < 6 then p (cr_n he (19 + v)) else 0) - (if cr_n ta (19 + v) < 6 then p (cr_n ta (19 + v)) else 0))) 6 = fb_si (fun v => cr_ov (cr_n fr) (cr_n to) (cr_i lo) v cnt * p v) 6 := by
    rw [← fb_si_add]
    refine fb_si_cong (fun v hv => ?_)
    (try dsimp only)
    obtain ⟨b1, b2, b3⟩ := hB.2.2.2.1 v hv
    obtain ⟨d1, d2, d3⟩ := hB.2.2.2.2 v hv
    rw [cr_n_of b1 (by omega), cr_n_of b2 (by omega), cr_n_of d1 (by omega), cr_n_of d2 (by omega), if_pos hv, if_neg (show ¬ ((6 : Nat) < 6) by decide), if_neg (show ¬ ((7 : Nat) < 6) by decide), hs v hv, hk v hv]
    rw [Int.sub_zero, Int.zero_sub, Int.mul_neg, ← Int.sub_eq_add_neg, ← Int.sub_mul]
    congr 1
    unfold cr_pos
    split <;> split <;> omega
  rw [cr_ov_pot (fun a ha => ⟨(hA.2 a ha).2.2.1, (hA.2 a ha).2.2.2.1⟩)] at t13
  have e7 : (if (7 : Nat) < 6 then p 7 else 0) = 0 := if_neg (by decide)
  have e6 : (if (6 : Nat) < 6 then p 6 else 0) = 0 := if_neg (by decide)
  simp only [e7, e6, Int.sub_self, Int.mul_zero] at hp
  have hs2 : cr_pot (cr_n fr) (cr_n to) (fun a => cr_i lo a + F a) p cnt = fb_si (fun a => cr_i lo a * (p (cr_n to a) - p (cr_n fr a))) cnt + fb_si (fun a => F a * (p (cr_n to a) - p (cr_n fr a))) cnt := by
    unfold cr_pot
    rw [← fb_si_add]
    refine fb_si_cong (fun a _ => ?_)
    exact Int.add_mul _ _ _
  rw [hs2]
  omega
end
section
/-! PLAIN: what the questions answer, in words that both classes meet -/
def cr_tb (k : Nat) : Nat → Bool := fun v => k.testBit v
def cr_up (f : Nat → Int) (a : Nat) (z : Int) : Nat → Int := fun j => if j = a then z else f j
def cr_un (f : Nat → Nat) (a : Nat) (z : Nat) : Nat → Nat := fun j => if j = a then z else f j
theorem cr_up_s {f : Nat → Int} {a : Nat} {z : Int} : cr_up f a z a = z := if_pos rfl
theorem cr_up_n {f : Nat → Int} {a j : Nat} {z : Int} (h : j ≠ a) : cr_up f a z j = f j := if_neg h
theorem cr_un_s {f : Nat → Nat} {a : Nat} {z : Nat} : cr_un f a z a = z := if_pos rfl
theorem cr_un_n {f : Nat → Nat} {a j : Nat} {z : Nat} (h : j ≠ a) : cr_un f a z j = f j := if_neg h
theorem cr_i_upd (f : Nat → Int32) (a : Nat) (z : Int32) : cr_i (upd f a z) = cr_up (cr_i f) a z.toInt := by
  funext j
  show (upd f a z j).toInt = cr_up (cr_i f) a z.toInt j
  by_cases h : j = a
  · subst h; rw [pk_us, cr_up_s]
  · rw [pk_un h, cr_up_n h]
theorem cr_n_upd (f : Nat → Int32) (a : Nat) (z : Int32) : cr_n (upd f a z) = cr_un (cr_n f) a z.toNatClampNeg := by
  funext j
  show (upd f a z j).toNatClampNeg = cr_un (cr_n f) a z.toNatClampNeg j
  by_cases h : j = a
  · subst h; rw [pk_us, cr_un_s]
  · rw [pk_un h, cr_un_n h]
/-- the greatest lack -/
def cr_wst (A B : Nat → Nat) (lo hi : Nat → Int) (n : Nat) (w : Int) : Prop := (∀ k, k < 64 → cr_lk A B lo hi (cr_tb k) n ≤ w) ∧ ∃ k, k < 64 ∧ cr_lk A B lo hi (cr_tb k) n = w
/-- no set lacks anything -/
def cr_alw (A B : Nat → Nat) (lo hi : Nat → Int) (n : Nat) : Prop := ∀ k, k < 64 → cr_lk A B lo hi (cr_tb k) n ≤ 0
def cr_PL (A B : Nat → Nat) (lo hi : Nat → Int) (n a : Nat) (r : Int32) : Prop := (r = -5 ∧ ∀ z, lo a ≤ z → z ≤ hi a → ¬ cr_alw A B (cr_up lo a z) (cr_up hi a z) n) ∨ (lo a ≤ r.toInt ∧ r.toInt ≤ hi a ∧ cr_alw A B (cr_up lo a r.toInt) (cr_up hi a r.toInt) n ∧ ∀ z, lo a ≤ z → z < r.toInt → ¬ cr_alw A B (cr_up lo a z) (cr_up hi a z) n)
def cr_PM (A B : Nat → Nat) (lo hi : Nat → Int) (n a : Nat) (r : Int32) : Prop := (r = -5 ∧ ∀ z, lo a ≤ z → z ≤ hi a → ¬ cr_alw A B (cr_up lo a z) (cr_up hi a z) n) ∨ (lo a ≤ r.toInt ∧ r.toInt ≤ hi a ∧ cr_alw A B (cr_up lo a r.toInt) (cr_up hi a r.toInt) n ∧ ∀ z, r.toInt < z → z ≤ hi a → ¬ cr_alw A B (cr_up lo a z) (cr_up hi a z) n)
/-- with an arc from t to s that carries z -/
def cr_alT (A B : Nat → Nat) (lo hi : Nat → Int) (n s t : Nat) (z : Int) : Prop := cr_alw (cr_un A n t) (cr_un B n s) (cr_up lo n z) (cr_up hi n z) (n + 1)
def cr_PT (A B : Nat → Nat) (lo hi : Nat → Int) (n s t : Nat) (r : Int32) : Prop := (r = -5 ∧ ∀ z, 0 ≤ z → z ≤ 240 → ¬ cr_alT A B lo hi n s t z) ∨ (0 ≤ r.toInt ∧ r.toInt ≤ 240 ∧ cr_alT A B lo hi n s t r.toInt ∧ ∀ z, r.toInt < z → z ≤ 240 → ¬ cr_alT A B lo hi n s t z)
def cr_PS (A B : Nat → Nat) (lo hi : Nat → Int) (n : Nat) (r : Int32) : Prop := ∃ w, cr_wst A B lo hi n w ∧ ∃ k, k < 64 ∧ r = nI k ∧ ∀ v, v < 6 → (k.testBit v = true ↔ ∀ j, j < 64 → cr_lk A B lo hi (cr_tb j) n = w → j.testBit v = true)
def cr_PP (A B : Nat → Nat) (lo hi : Nat → Int) (n : Nat) (r : Int32) : Prop := ∃ w, cr_wst A B lo hi n w ∧ r = if w = 0 then 1 else 0
/-- the same arcs -/
def cr_Sm (A B A' B' : Nat → Nat) (lo hi lo' hi' : Nat → Int) (n : Nat) : Prop := ∀ a, a < n → A a = A' a ∧ B a = B' a ∧ lo a = lo' a ∧ hi a = hi' a
theorem cr_Sm_lk {A B A' B' : Nat → Nat} {lo hi lo' hi' : Nat → Int} {n : Nat} (h : cr_Sm A B A' B' lo hi lo' hi' n) (S : Nat → Bool) : cr_lk A B lo hi S n = cr_lk A' B' lo' hi' S n := cr_lk_cong (fun a ha => by
  obtain ⟨h1, h2, h3, h4⟩ := h a ha
  exact ⟨by rw [h1], by rw [h2], h3, h4⟩)
theorem cr_Sm_symm {A B A' B' : Nat → Nat} {lo hi lo' hi' : Nat → Int} {n : Nat} (h : cr_Sm A B A' B' lo hi lo' hi' n) : cr_Sm A' B' A B lo' hi' lo hi n := fun a ha => by
  obtain ⟨h1, h2, h3, h4⟩ := h a ha
  exact ⟨h1.symm, h2.symm, h3.symm, h4.symm⟩
theorem cr_Sm_up {A B A' B' : Nat → Nat} {lo hi lo' hi' : Nat → Int} {n : Nat} (h : cr_Sm A B A' B' lo hi lo' hi' n) (a : Nat) (z : Int) : cr_Sm A B A' B' (cr_up lo a z) (cr_up hi a z) (cr_up lo' a z) (cr_up hi' a z) n := fun j hj => by
  obtain ⟨h1, h2, h3, h4⟩ := h j hj
  refine ⟨h1, h2, ?_, ?_⟩ <;> unfold cr_up <;> split <;> first | rfl | assumption
theorem cr_Sm_ext {A B A' B' : Nat → Nat} {lo hi lo' hi' : Nat → Int} {n : Nat} (h : cr_Sm A B A' B' lo hi lo' hi' n) (s t : Nat) (z : Int) : cr_Sm (cr_un A n t) (cr_un B n s) (cr_un A' n t) (cr_un B' n s) (cr_up lo n z) (cr_up hi n z) (cr_up lo' n z) (cr_up hi' n z) (n + 1) := fun j hj => by
  by_cases e : j = n
  · subst e
    exact ⟨by rw [cr_un_s, cr_un_s], by rw [cr_un_s, cr_un_s], by rw [cr_up_s, cr_up_s], by rw [cr_up_s, cr_up_s]⟩
  · obtain ⟨h1, h2, h3, h4⟩ := h j (by omega)
    exact ⟨by rw [cr_un_n e, cr_un_n e]; exact h1, by rw [cr_un_n e, cr_un_n e]; exact h2, by rw [cr_up_n e, cr_up_n e]; exact h3, by rw [cr_up_n e, cr_up_n e]; exact h4⟩
theorem cr_Sm_alw {A B A' B' : Nat → Nat} {lo hi lo' hi' : Nat → Int} {n : Nat} (h : cr_Sm A B A' B' lo hi lo' hi' n) (q : cr_alw A B lo hi n) : cr_alw A' B' lo' hi' n := fun k hk => by
  rw [← cr_Sm_lk h]
  exact q k hk
theorem cr_wst_uniq {A B A' B' : Nat → Nat} {lo hi lo' hi' : Nat → Int} {n : Nat} (h : cr_Sm A B A' B' lo hi lo' hi' n) {w w' : Int} (h1 : cr_wst A B lo hi n w) (h2 : cr_wst A' B' lo' hi' n w') : w = w' := by
  obtain ⟨a1, k1, b1, c1⟩ := h1
  obtain ⟨a2, k2, b2, c2⟩ := h2
  have d1 := a1 k2 b2
  have d2 := a2 k1 b1
  rw [cr_Sm_lk h] at d1 c1
  omega
theorem cr_m5 : (-5 : Int32).toInt = -5 := by decide
theorem cr_PL_uniq {A B A' B' : Nat → Nat} {lo hi lo' hi' : Nat → Int} {n a : Nat} (h : cr_Sm A B A' B' lo hi lo' hi' n) (ha : a < n) {r r' : Int32} (h1 : cr_PL A B lo hi n a r) (h2 : cr_PL A' B' lo' hi' n a r') : r = r' := by
  obtain ⟨-, -, el, eh⟩ := h a ha
  have tr : ∀ z, cr_alw A B (cr_up lo a z) (cr_up hi a z) n → cr_alw A' B' (cr_up lo' a z) (cr_up hi' a z) n := fun z q => cr_Sm_alw (cr_Sm_up h a z) q
  have tr' : ∀ z, cr_alw A' B' (cr_up lo' a z) (cr_up hi' a z) n → cr_alw A B (cr_up lo a z) (cr_up hi a z) n := fun z q => cr_Sm_alw (cr_Sm_up (cr_Sm_symm h) a z) q
  rcases h1 with ⟨e1, n1⟩ | ⟨b1, c1, d1, f1⟩ <;> rcases h2 with ⟨e2, n2⟩ | ⟨b2, c2, d2, f2⟩
  · rw [e1, e2]
  · exact absurd (tr' _ d2) (n1 _ (by omega) (by omega))
  · exact absurd (tr _ d1) (n2 _ (by omega) (by omega))
  · refine Int32.toInt_inj.mp ?_
    rcases Int.lt_trichotomy r.toInt r'.toInt with q | q | q
    · exact absurd (tr _ d1) (f2 _ (by omega) q)
    · exact q
    · exact absurd (tr' _ d2) (f1 _ (by omega) q)
theorem cr_PM_uniq {A B A' B' : Nat → Nat} {lo hi lo' hi' : Nat → Int} {n a : Nat} (h : cr_Sm A B A' B' lo hi lo' hi' n) (ha : a < n) {r r' : Int32} (h1 : cr_PM A B lo hi n a r) (h2 : cr_PM A' B' lo' hi' n a r') : r = r' := by
  obtain ⟨-, -, el, eh⟩ := h a ha
  have tr : ∀ z, cr_alw A B (cr_up lo a z) (cr_up hi a z) n → cr_alw A' B' (cr_up lo' a z) (cr_up hi' a z) n := fun z q => cr_Sm_alw (cr_Sm_up h a z) q
  have tr' : ∀ z, cr_alw A' B' (cr_up lo' a z) (cr_up hi' a z) n → cr_alw A B (cr_up lo a z) (cr_up hi a z) n := fun z q => cr_Sm_alw (cr_Sm_up (cr_Sm_symm h) a z) q
  rcases h1 with ⟨e1, n1⟩ | ⟨b1, c1, d1, f1⟩ <;> rcases h2 with ⟨e2, n2⟩ | ⟨b2, c2, d2, f2⟩
  · rw [e1, e2]
  · exact absurd (tr' _ d2) (n1 _ (by omega) (by omega))
  · exact absurd (tr _ d1) (n2 _ (by omega) (by omega))
  · refine Int32.toInt_inj.mp ?_
    rcases Int.lt_trichotomy r.toInt r'.toInt with q | q | q
    · exact absurd (tr' _ d2) (f1 _ q (by omega))
    · exact q
    · exact absurd (tr _ d1) (f2 _ q (by omega))
theorem cr_PT_uniq {A B A' B' : Nat → Nat} {lo hi lo' hi' : Nat → Int} {n s t : Nat} (h : cr_Sm A B A' B' lo hi lo' hi' n) {r r' : Int32} (h1 : cr_PT A B lo hi n s t r) (h2 : cr_PT A' B' lo' hi' n s t r') : r = r' := by
  have tr : ∀ z, cr_alT A B lo hi n s t z → cr_alT A' B' lo' hi' n s t z := fun z q => cr_Sm_alw (cr_Sm_ext h s t z) q
  have tr' : ∀ z, cr_alT A' B' lo' hi' n s t z → cr_alT A B lo hi n s t z := fun z q => cr_Sm_alw (cr_Sm_ext (cr_Sm_symm h) s t z) q
  rcases h1 with ⟨e1, n1⟩ | ⟨b1, c1, d1, f1⟩ <;> rcases h2 with ⟨e2, n2⟩ | ⟨b2, c2, d2, f2⟩
  · rw [e1, e2]
  · exact absurd (tr' _ d2) (n1 _ b2 c2)
  · exact absurd (tr _ d1) (n2 _ b1 c1)
  · refine Int32.toInt_inj.mp ?_
    rcases Int.lt_trichotomy r.toInt r'.toInt with q | q | q
    · exact absurd (tr' _ d2) (f1 _ q c2)
    · exact q
    · exact absurd (tr _ d1) (f2 _ q c1)
theorem cr_bits6 {k k' : Nat} (hk : k < 64) (hk' : k' < 64) (h : ∀ v, v < 6 → k.testBit v = k'.testBit v) : k = k' := by
  apply Nat.eq_of_testBit_eq
  intro i
  by_cases q : i < 6
  · exact h i q
  · have h1 : k < 2 ^ i := Nat.lt_of_lt_of_le hk (show 2 ^ 6 ≤ 2 ^ i from Nat.pow_le_pow_right (show 0 < 2 by decide) (show 6 ≤ i by omega))
    have h2 : k' < 2 ^ i := Nat.lt_of_lt_of_le hk' (show 2 ^ 6 ≤ 2 ^ i from Nat.pow_le_pow_right (show 0 < 2 by decide) (show 6 ≤ i by omega))
    rw [Nat.testBit_lt_two_pow h1, Nat.testBit_lt_two_pow h2]
theorem cr_PS_uniq {A B A' B' : Nat → Nat} {lo hi lo' hi' : Nat → Int} {n : Nat} (h : cr_Sm A B A' B' lo hi lo' hi' n) {r r' : Int32} (h1 : cr_PS A B lo hi n r) (h2 : cr_PS A' B' lo' hi' n r') : r = r' := by
  obtain ⟨w, w1, k, k1, k2, k3⟩ := h1
  obtain ⟨w', w1', k', k1', k2', k3'⟩ := h2
  have ew := cr_wst_uniq h w1 w1'
  subst ew
  have ek : k = k' := cr_bits6 k1 k1' (fun v hv => by
    have e1 := k3 v hv
    have e2 := k3' v hv
    have e3 : (∀ j, j < 64 → cr_lk A B lo hi (cr_tb j) n = w → j.testBit v = true) ↔ (∀ j, j < 64 → cr_lk A' B' lo' hi' (cr_tb j) n = w → j.testBit v = true) := by
      constructor
      · intro q j hj e; exact q j hj ((cr_Sm_lk h _).trans e)
      · intro q j hj e; exact q j hj ((cr_Sm_lk h _).symm.trans e)
    exact Bool.eq_iff_iff.mpr (e1.trans (e3.trans e2.symm)))
  rw [k2, k2', ek]
theorem cr_PP_uniq {A B A' B' : Nat → Nat} {lo hi lo' hi' : Nat → Int} {n : Nat} (h : cr_Sm A B A' B' lo hi lo' hi' n) {r r' : Int32} (h1 : cr_PP A B lo hi n r) (h2 : cr_PP A' B' lo' hi' n r') : r = r' := by
  obtain ⟨w, w1, e⟩ := h1
  obtain ⟨w', w1', e'⟩ := h2
  have ew := cr_wst_uniq h w1 w1'
  subst ew
  rw [e, e']
/-- a set of vertices as a mask -/
theorem cr_mask0 : ∀ b0 b1 b2 b3 b4 b5 : Bool, (b0.toNat + 2 * b1.toNat + 4 * b2.toNat + 8 * b3.toNat + 16 * b4.toNat + 32 * b5.toNat < 64) ∧ ((b0.toNat + 2 * b1.toNat + 4 * b2.toNat + 8 * b3.toNat + 16 * b4.toNat + 32 * b5.toNat).testBit 0 = b0) ∧ ((b0.toNat + 2 * b1.toNat + 4 * b2.toNat + 8 * b3.toNat + 16 * b4.toNat + 32 * b5.toNat).testBit 1 = b1) ∧ ((b0.toNat + 2 * b1.toNat + 4 * b2.toNat + 8 * b3.toNat + 16 * b4.toNat + 32 * b5.toNat).testBit 2 = b2) ∧ ((b0.toNat + 2 * b1.toNat + 4 * b2.toNat + 8 * b3.toNat + 16 * b4.toNat + 32 * b5.toNat).testBit 3 = b3) ∧ ((b0.toNat + 2 * b1.toNat + 4 * b2.toNat + 8 * b3.toNat + 16 * b4.toNat + 32 * b5.toNat).testBit 4 = b4) ∧ ((b0.toNat + 2 * b1.toNat + 4 * b2.toNat + 8 * b3.toNat + 16 * b4.toNat + 32 * b5.toNat).testBit 5 = b5) := by decide +kernel
theorem cr_mask (S : Nat → Bool) : ∃ k, k < 64 ∧ ∀ v, v < 6 → cr_tb k v = S v := by
  obtain ⟨h, h0, h1, h2, h3, h4, h5⟩ := cr_mask0 (S 0) (S 1) (S 2) (S 3) (S 4) (S 5)
  refine ⟨_, h, fun v hv => ?_⟩
  match v, hv with
  | 0, _ => exact h0
  | 1, _ => exact h1
  | 2, _ => exact h2
  | 3, _ => exact h3
  | 4, _ => exact h4
  | 5, _ => exact h5
  | v + 6, hv => omega
/-- a mask's set, with the source -/
def cr_ex (k : Nat) : Nat → Bool := fun v => if v < 6 then k.testBit v else decide (v = 6)
theorem cr_ex_lo {k v : Nat} (h : v < 6) : cr_ex k v = k.testBit v := if_pos h
theorem cr_ex_6 (k : Nat) : cr_ex k 6 = true := rfl
theorem cr_ex_7 (k : Nat) : cr_ex k 7 = false := rfl
theorem cr_lk_same {A B : Nat → Nat} {lo hi : Nat → Int} {n : Nat} (h : ∀ a, a < n → A a < 6 ∧ B a < 6) {S S' : Nat → Bool} (hS : ∀ v, v < 6 → S v = S' v) : cr_lk A B lo hi S n = cr_lk A B lo hi S' n := cr_lk_cong (fun a ha => ⟨hS _ (h a ha).1, hS _ (h a ha).2, rfl, rfl⟩)
theorem cr_e12_same {x12 y12 : Nat} {r12 : Int} (hX : cr_X x12 y12 r12) {S S' : Nat → Bool} (hS : ∀ v, v < 6 → S v = S' v) : cr_e12 S x12 y12 r12 = cr_e12 S' x12 y12 r12 := by
  unfold cr_e12
  rw [hS _ hX.1, hS _ hX.2.1]
theorem cr_Arcs.lt {cnt : Nat} {fr to lo hi : Nat → Int32} (hA : cr_Arcs cnt fr to lo hi) : ∀ a, a < cnt → cr_n fr a < 6 ∧ cr_n to a < 6 := fun a ha => ⟨(hA.2 a ha).2.2.1, (hA.2 a ha).2.2.2.1⟩
/-- the end of a solve -/
def cr_End (ta he ro : Nat → Int32) (F : Nat → Int) (m : Int) : Prop := m = cr_need ro ∨ ∃ S : Nat → Bool, S 6 = true ∧ S 7 = false ∧ ∀ e, e < 25 → cr_tight (cr_n ta) (cr_n he) (cr_i ro) F S e
theorem cr_x_all {cnt : Nat} {fr to lo hi ta he ro : Nat → Int32} {F : Nat → Int} {x12 y12 : Nat} {r12 m : Int} (hA : cr_Arcs cnt fr to lo hi) (hB : cr_Bt cnt fr to lo hi ta he ro x12 y12 r12) (hX : cr_X x12 y12 r12) (hF : cr_Flo ta he ro F m) (k : Nat) : cr_lk (cr_n fr) (cr_n to) (cr_i lo) (cr_i hi) (cr_tb k) cnt - cr_e12 (cr_tb k) x12 y12 r12 ≤ cr_need ro - m := by
  have h1 := cr_lack_le hA hB hX hF (cr_ex_6 k) (cr_ex_7 k)
  rw [cr_lk_same hA.lt (S' := cr_tb k) (fun v hv => cr_ex_lo hv), cr_e12_same hX (S' := cr_tb k) (fun v hv => cr_ex_lo hv)] at h1
  exact h1
theorem cr_x_some {cnt : Nat} {fr to lo hi ta he ro : Nat → Int32} {F : Nat → Int} {x12 y12 : Nat} {r12 m : Int} (hA : cr_Arcs cnt fr to lo hi) (hB : cr_Bt cnt fr to lo hi ta he ro x12 y12 r12) (hX : cr_X x12 y12 r12) (hF : cr_Flo ta he ro F m) (hE : cr_End ta he ro F m) : ∃ k, k < 64 ∧ cr_lk (cr_n fr) (cr_n to) (cr_i lo) (cr_i hi) (cr_tb k) cnt - cr_e12 (cr_tb k) x12 y12 r12 = cr_need ro - m := by
  rcases hE with hE | ⟨S, h6, h7, ht⟩
  · refine ⟨0, by decide, ?_⟩
    have z : ∀ v, cr_tb 0 v = false := fun v => Nat.zero_testBit v
    rw [cr_lk_empty (fun a _ => by rw [z, z])]
    unfold cr_e12
    rw [if_neg (fun h => by rw [z] at h; exact absurd h.1 (by decide))]
    omega
  · obtain ⟨k, hk, hm⟩ := cr_mask S
    refine ⟨k, hk, ?_⟩
    rw [cr_lk_same hA.lt hm, cr_e12_same hX hm]
    exact cr_lack_eq hA hB hX hF h6 h7 ht
theorem cr_e12_0 (S : Nat → Bool) : cr_e12 S 0 0 0 = 0 := by
  unfold cr_e12
  split <;> rfl
theorem cr_X0 : cr_X 0 0 0 := ⟨by decide, by decide, by decide, by decide, fun _ => rfl⟩
theorem cr_x_wst {cnt : Nat} {fr to lo hi ta he ro : Nat → Int32} {F : Nat → Int} {m : Int} (hA : cr_Arcs cnt fr to lo hi) (hB : cr_Bt cnt fr to lo hi ta he ro 0 0 0) (hF : cr_Flo ta he ro F m) (hE : cr_End ta he ro F m) : cr_wst (cr_n fr) (cr_n to) (cr_i lo) (cr_i hi) cnt (cr_need ro - m) := by
  refine ⟨fun k _ => ?_, ?_⟩
  · have h1 := cr_x_all hA hB cr_X0 hF k
    rw [cr_e12_0] at h1
    omega
  · obtain ⟨k, hk, h1⟩ := cr_x_some hA hB cr_X0 hF hE
    rw [cr_e12_0] at h1
    exact ⟨k, hk, by omega⟩
theorem cr_x_set {cnt : Nat} {fr to lo hi ta he ro fl bY : Nat → Int32} {m : Int} {y : Nat} {r : Int32} (hA : cr_Arcs cnt fr to lo hi) (hB : cr_Bt cnt fr to lo hi ta he ro 0 0 0) (hF : cr_Fl ta he ro fl m) (hE : cr_End ta he ro (cr_i fl) m) (hW : cr_FW (cr_n ta) (cr_n he) ro fl (-1) 6 y r bY) : ∀ v, v < 6 → (0 ≤ (bY v).toInt ↔ ∀ j, j < 64 → cr_lk (cr_n fr) (cr_n to) (cr_i lo) (cr_i hi) (cr_tb j) cnt = cr_need ro - m → j.testBit v = true) := by
  obtain ⟨-, h50, ⟨rk, hT⟩, hcl⟩ := hW
  have hne : ∀ e, e < 25 → nI e ≠ (-1 : Int32) := by
    intro e he q
    have := congrArg Int32.toInt q
    rw [nI_toInt (by omega), cr_m1] at this
    omega
  have hends := cr_Bt_ends hA hB cr_X0
  have tj : ∀ j, cr_lk (cr_n fr) (cr_n to) (cr_i lo) (cr_i hi) (cr_tb j) cnt = cr_need ro - m → ∀ v, v < 8 → 0 ≤ (bY v).toInt → cr_ex j v = true := by
    intro j hj v hv hb
    refine cr_FW_in hT (cr_ex_6 j) (cr_lack_tight hA hB cr_X0 hF.flo (cr_ex_6 j) (cr_ex_7 j) ?_) (rk v) v hv hb (Nat.le_refl _)
    rw [cr_lk_same hA.lt (S' := cr_tb j) (fun v hv => cr_ex_lo hv), cr_e12_0, hj]
    omega
  intro v hv
  constructor
  · intro hb j _ hj
    have := tj j hj v (by omega) hb
    rwa [cr_ex_lo hv] at this
  · intro hall
    have h6 : cr_cn bY 6 = true := by unfold cr_cn; rw [h50, cr_50]; decide
    have h7 : cr_cn bY 7 = false := by
      obtain ⟨k0, hk0, e0⟩ := cr_x_some hA hB cr_X0 hF.flo hE
      rw [cr_e12_0] at e0
      refine decide_eq_false (fun hb => ?_)
      have := tj k0 (by omega) 7 (by decide) hb
      rw [cr_ex_7] at this
      exact absurd this (by decide)
    have ht := cr_FW_tight hends hF.1 hcl
    have hl := cr_lack_eq hA hB cr_X0 hF.flo h6 h7 (fun e he => ht e he (hne e he))
    rw [cr_e12_0] at hl
    obtain ⟨k, hk, hm⟩ := cr_mask (cr_cn bY)
    have h1 := hall k hk (by rw [cr_lk_same hA.lt hm]; omega)
    have h2 := hm v hv
    have h3 : cr_cn bY v = true := h2.symm.trans h1
    exact of_decide_eq_true h3
/-- an amount that a circulation gives the arc a is allowed -/
theorem cr_feas {cnt : Nat} {fr to lo hi ta he ro : Nat → Int32} {F : Nat → Int} {a : Nat} (hA : cr_Arcs cnt fr to lo hi) (hB : cr_Bt cnt fr to lo hi ta he ro 0 0 0) (hF : cr_Flo ta he ro F (cr_need ro)) (ha : a < cnt) {z : Int} (hz : z = cr_i lo a + F a) : cr_alw (cr_n fr) (cr_n to) (cr_up (cr_i lo) a z) (cr_up (cr_i hi) a z) cnt := by
  intro k _
  refine cr_circ_le (x := fun j => cr_i lo j + F j) _ (fun j hj => ?_) (fun p => ?_)
  · have h1 := hF.1 j (by have := hA.1; omega)
    have h2 := (hB.1 j hj).2.2
    by_cases e : j = a
    · subst e
      rw [cr_up_s, cr_up_s]
      omega
    · rw [cr_up_n e, cr_up_n e]
      omega
  · have h1 := cr_circ hA hB cr_X0 hF p
    rw [Int.sub_self, Int.mul_zero] at h1
    omega
/-- an amount on the wrong side of a closed set is not -/
theorem cr_infeas {cnt : Nat} {fr to lo hi ta he ro : Nat → Int32} {F : Nat → Int} {a : Nat} (hA : cr_Arcs cnt fr to lo hi) (hB : cr_Bt cnt fr to lo hi ta he ro 0 0 0) (hF : cr_Flo ta he ro F (cr_need ro)) (ha : a < cnt) {z : Int} {S : Nat → Bool} (ht : ∀ e, e < 25 → e ≠ a → cr_tight (cr_n ta) (cr_n he) (cr_i ro) F S e) (hz : (S (cr_n fr a) = true ∧ S (cr_n to a) = false ∧ z < cr_i lo a + F a) ∨ (S (cr_n fr a) = false ∧ S (cr_n to a) = true ∧ cr_i lo a + F a < z)) : ¬ cr_alw (cr_n fr) (cr_n to) (cr_up (cr_i lo) a z) (cr_up (cr_i hi) a z) cnt := by
  intro hal
  obtain ⟨k, hk, hm⟩ := cr_mask S
  have h1 := hal k hk
  rw [cr_lk_same hA.lt hm] at h1
  rw [cr_circ_one (x := fun j => cr_i lo j + F j) ha (fun j hj hne => by
    obtain ⟨b1, b2, b3⟩ := hB.1 j hj
    have e1 : cr_n ta j = cr_n fr j := by show (ta j).toNatClampNeg = _; rw [b1]
    have e2 : cr_n he j = cr_n to j := by show (he j).toNatClampNeg = _; rw [b2]
    have t := ht j (by have := hA.1; omega) hne
    unfold cr_tight at t
    rw [e1, e2] at t
    rw [cr_up_n hne, cr_up_n hne]
    exact ⟨fun p q => by have := t.1 p q; omega, fun p q => by have := t.2 p q; omega⟩) (fun p => by
    have h1 := cr_circ hA hB cr_X0 hF p
    rw [Int.sub_self, Int.mul_zero] at h1
    omega)] at h1
  rcases hz with ⟨p, q, hz⟩ | ⟨p, q, hz⟩
  · rw [cr_lt_out p q, cr_b_t p, cr_b_f q, cr_up_s] at h1
    omega
  · rw [cr_lt_in p q, cr_b_f p, cr_b_t q, cr_up_s] at h1
    omega
/-- a network that can't be filled: no amount within its bounds is allowed -/
theorem cr_none {A B : Nat → Nat} {lo hi : Nat → Int} {n a k : Nat} (hk : k < 64) (h : 0 < cr_lk A B lo hi (cr_tb k) n) {z : Int} (h1 : lo a ≤ z) (h2 : z ≤ hi a) : ¬ cr_alw A B (cr_up lo a z) (cr_up hi a z) n := by
  intro hal
  have h3 := hal k hk
  have h4 : cr_lk A B lo hi (cr_tb k) n ≤ cr_lk A B (cr_up lo a z) (cr_up hi a z) (cr_tb k) n := by
    refine cr_si_le (fun j _ => ?_)
    by_cases e : j = a
    · subst e
      cases p : cr_tb k (A j) <;> cases q : cr_tb k (B j)
      · rw [cr_lt_eq (p.trans q.symm), cr_lt_eq (p.trans q.symm)]; exact Int.le_refl _
      · rw [cr_lt_in p q, cr_lt_in p q, cr_up_s]; exact h1
      · rw [cr_lt_out p q, cr_lt_out p q, cr_up_s]; omega
      · rw [cr_lt_eq (p.trans q.symm), cr_lt_eq (p.trans q.symm)]; exact Int.le_refl _
    · unfold cr_lt
      rw [cr_up_n e, cr_up_n e]
      exact Int.le_refl _
  omega
end
section
/-! my own rows over the kit: a method's start, its end, calls that hand the whole world over -/
abbrev vwCl : List vw_C := [(RX0, TX0, 13), (RX1, TX1, 5)]
def cr_Pre (D : va_G) (d : ClassId) (ws : va_W) (sz : Nat) : State → Prop := fun U => U.heap.size = sz ∧ va_P D vwCl ws U.heap ∧ va_K D vwCl [(d, .int)] U ∧ va_D (fun _ => True) ws
def cr_Bh {S : Type} (D : va_G) (d : ClassId) (A : Nat → Prop) (wf : S → va_W) (u : S) (t : State) : Prop := va_P D vwCl (wf u) t.heap ∧ va_K D vwCl [(d, .int)] t ∧ va_D A (wf u)
/-- a contract with an int (or boolean) answer: the world w0 becomes wf u -/
abbrev cr_Mi (l : Launch) (D : va_G) (d : ClassId) (w0 : va_W) (sz : Nat) (y : MethodName) (b : ByteArray) (L : Nat) (rt : Option FieldType) (fr lc : Nat) (av : List Value) {S : Type} (post : Int32 → S → Prop) (wf : S → va_W) : Prop := Met l y (ws_ y b L rt) ({ frames := fr, cells := 0, slots := 0, locals := lc }) (va_Pc av (cr_Pre D d w0 sz)) (va_Qi post (cr_Bh D d (va_A w0 sz) wf) (va_A w0 sz)) 0 0 (va_A w0 sz)
abbrev cr_Mv (l : Launch) (D : va_G) (d : ClassId) (w0 : va_W) (sz : Nat) (y : MethodName) (b : ByteArray) (L : Nat) (fr lc : Nat) (av : List Value) {S : Type} (post : S → Prop) (wf : S → va_W) : Prop := Met l y (ws_ y b L none) ({ frames := fr, cells := 0, slots := 0, locals := lc }) (va_Pc av (cr_Pre D d w0 sz)) (va_Qv post (cr_Bh D d (va_A w0 sz) wf) (va_A w0 sz)) 0 0 (va_A w0 sz)
/-- a method's start -/
theorem cr_begin {l : Launch} {D : va_G} {d : ClassId} {w0 : va_W} {sz : Nat} {y : MethodName} {b : ByteArray} {L : Nat} {rt : Option FieldType} {rm : Room} {av : List Value} {Qc : (Nat → Prop) → Array Value → State → Outcome → State → Prop} (hy : plainName y.cls = true) (hL : (lg_sl av).length ≤ L)
    (body : ∀ (p : Program) (e : Env) (s : State) (m : MethodId) (below : List Frame) (meth : Method) (c : Code) (A : Nat → Prop) (ls : Array Slot), p.tables.exec = Jvm.exec → c.code = b → meth.sig.returnType = rt → c.maxLocals = L → (∀ w ∈ lw_all, w.before av.toArray s = true) → s.vm.findClass y.cls = some m.cls → meth.locks = false → (∀ q, s.heap.size ≤ q → A q) → va_P D vwCl w0 s.heap → va_K D vwCl [(d, .int)] s → va_D A w0 → va_S A s.heap s.heap [] → lv_has ls L (lv_args 0 av) → W p l e rm s m av.toArray below meth c s.heap [] 0 0 (MQ below (Qc A) av.toArray s 0 0 A) (F0 m 0 ls [])) :
    Met l y (ws_ y b L rt) rm (va_Pc av (cr_Pre D d w0 sz)) (Qc (va_A w0 sz)) 0 0 (va_A w0 sz) := by
  refine Met.ofW (cc := b) (maxL := L) (ret := rt) hy rfl ?_
  intro p e s m args below meth c s₁ B hml hv
  obtain ⟨rfl, hsz, hP, hK, hD0⟩ := hv
  have hts := atoms_spec (ws := ws_ y b L rt) B.pre
  have hts : ∀ w ∈ lw_all, w.before _ s = true := fun w h => hts w (List.mem_cons_of_mem _ h)
  have hown : s.vm.findClass y.cls = some m.cls := findClass_of_methodNamed B.named
  subst hsz
  have hD := hD0.self (sz := s.heap.size)
  generalize hAe : va_A w0 s.heap.size = A at hD ⊢
  have hA : ∀ q : Nat, s.heap.size ≤ q → A q := fun q h => by rw [← hAe]; exact Or.inr h
  have hS : va_S A s.heap s.heap [] := va_S.rf
  have hl := lv_entry av (n := L) hL
  rw [lg_entry_eq]
  exact body p e s m below meth c A _ B.exec B.bytes B.returns hml hts hown B.notSynchronized hA hP hK hD hS hl
section CRW
variable {p : Program} {l : Launch} {e : Env} {R : Room} {s : State} {m : MethodId} {args : Array Value} {below : List Frame} {meth : Method} {c : Code} {H : Heap} {locs : List Loc} {cells slots : Nat} {Q : State → Prop}
variable {cc : ByteArray} {pc : Nat} {ls : Array Slot} {D : va_G} {d : ClassId} {A : Nat → Prop}
theorem cr_iret {S : Type} {post : Int32 → S → Prop} {wf : S → va_W} {v : Int32} (u : S) (hx : p.tables.exec = Jvm.exec) (hb : c.code = cc) (hr : meth.sig.returnType = some .int) (hlocks : meth.locks = false) (hK : va_K D vwCl [(d, .int)] s) (hP : va_P D vwCl (wf u) H) (hD : va_D A (wf u)) (hS : va_S A s.heap H locs) (hdg : decode cc pc = .ok (.ireturn, 1)) (hp : post v u) : W p l e R s m args below meth c H locs cells slots (MQ below (va_Qi post (cr_Bh D d A wf) A) args s cells slots A) (F0 m pc ls [.int v]) :=
  W.iret (v := v) hx hb hr (fun t ht hW => ⟨⟨v, u, rfl, hp, by rw [ht]; exact hP, va_K.moved hW.alike hK, hD⟩, hS.F ht⟩) hS.2.2 hdg hlocks
theorem cr_zret {S : Type} {post : Int32 → S → Prop} {wf : S → va_W} {v : Int32} (u : S) (hx : p.tables.exec = Jvm.exec) (hb : c.code = cc) (hr : meth.sig.returnType = some .boolean) (hlocks : meth.locks = false) (hn : narrow .boolean (.int v) = .int v) (hK : va_K D vwCl [(d, .int)] s) (hP : va_P D vwCl (wf u) H) (hD : va_D A (wf u)) (hS : va_S A s.heap H locs) (hdg : decode cc pc = .ok (.ireturn, 1)) (hp : post v u) : W p l e R s m args below meth c H locs cells slots (MQ below (va_Qi post (cr_Bh D d A wf) A) args s cells slots A) (F0 m pc ls [.int v]) :=
  W.zret (v := v) hx hb hr hn (fun t ht hW => ⟨⟨v, u, rfl, hp, by rw [ht]; exact hP, va_K.moved hW.alike hK, hD⟩, hS.F ht⟩) hS.2.2 hdg hlocks
theorem cr_vret {S : Type} {post : S → Prop} {wf : S → va_W} (u : S) (hx : p.tables.exec = Jvm.exec) (hb : c.code = cc) (hr : meth.sig.returnType = none) (hlocks : meth.locks = false) (hK : va_K D vwCl [(d, .int)] s) (hP : va_P D vwCl (wf u) H) (hD : va_D A (wf u)) (hS : va_S A s.heap H locs) (hdg : decode cc pc = .ok (.return_, 1)) (hp : post u) : W p l e R s m args below meth c H locs cells slots (MQ below (va_Qv post (cr_Bh D d A wf) A) args s cells slots A) (F0 m pc ls []) :=
  W.vret hx hb hr (fun t ht hW => ⟨⟨u, rfl, hp, by rw [ht]; exact hP, va_K.moved hW.alike hK, hD⟩, hS.F ht⟩) hS.2.2 hdg hlocks
variable {nL idx maxL n ci : Nat} {own C : String} {y : MethodName} {bytes : ByteArray} {ret : Option FieldType} {rm : Room} {ws wc wr : va_W} {H0 : Heap} {b : Nat} {As rest st : List Value} {T : u_T} {N : Nat} {fs : List Value}
theorem cr_blind {av : List Value} {wc : va_W} {sz : Nat} : FrameBlind (va_Pc av (cr_Pre D d wc sz)) := fun a U g mk q => by
  obtain ⟨q0, q1, qP, qK, qD⟩ := q
  exact ⟨q0, q1, qP, va_K.moved (u := U) (U := U.calling g mk a) (Vm.Alike.refl U.vm) qK, qD⟩
/-- a call on an object that hands the whole world over; an int comes back -/
theorem cr_selfi {S : Type} {post : Int32 → S → Prop} {wf : S → va_W} (F : CallFix p m c cc nL s args lw_all own) (hM : Met l y (ws_ y bytes maxL ret) rm (va_Pc (.ref b :: As) (cr_Pre D d ws H.size)) (va_Qi post (cr_Bh D d (va_A ws H.size) wf) (va_A ws H.size)) 0 0 (va_A ws H.size)) (cw : CallW R s args own C idx y bytes maxL ret (ws_ y bytes maxL ret) rm 0 0 n) (hK : va_K D vwCl [(d, .int)] s) (hP : va_P D vwCl ws H) (hD : va_D A ws) (hS : va_S A H0 H locs) (hA : ∀ q, H0.size ≤ q → A q) (hci : vwCl[ci]? = some (C, T, N)) (he : ws[0]? = some (b, .inr (ci, fs))) (hn : As.length = n) (hsz : ls.size = nL) (hst : st = As.reverse ++ .ref b :: rest) (hro : (rest.map fun v => v.category).sum ≤ 8) (hdg : decode cc pc = .ok (.invokevirtual idx, 3)) (hf : cells ≤ R.cells ∧ slots ≤ R.slots)
    (kk : ∀ (r : Int32) (u : S) (H1 : Heap) (locs1 : List Loc), post r u → va_P D vwCl (wf u) H1 → va_D A (wf u) → va_S A H0 H1 locs1 → W p l e R s m args below meth c H1 locs1 cells slots Q (F0 m (pc + 3) ls (.int r :: rest))) : W p l e R s m args below meth c H locs cells slots Q (F0 m pc ls st) := by
  have hFc : ∀ q, va_A ws H.size q → A q := by
    intro q h
    rcases h with ⟨k, e, h⟩ | h
    · exact hD.2 k (q, e) h
    · exact hA q (Nat.le_trans hS.1 h)
  refine va_calli (va_runV (As := As) (rest := rest) F hM cw ⟨cr_blind, va_recv hK hP hci he, fun U hU hW => ⟨rfl, by rw [hU], by rw [hU]; exact hP, va_K.moved hW.alike hK, hD.weaken (fun _ _ _ _ => trivial)⟩⟩ rfl hn hsz hst (lv_room hro) hdg hf) hS (fun q _ h => hFc q h) hFc (fun r u t H1 locs1 ht hvm hw hB hz1 hk1 hS1 => ?_)
  obtain ⟨hP1, hK1, hD1⟩ := hB
  rw [ht] at hP1
  exact kk r u H1 locs1 hw hP1 (hD1.weaken (fun _ q _ h => hFc q.1 h)) hS1
theorem cr_selfv {S : Type} {post : S → Prop} {wf : S → va_W} (F : CallFix p m c cc nL s args lw_all own) (hM : Met l y (ws_ y bytes maxL ret) rm (va_Pc (.ref b :: As) (cr_Pre D d ws H.size)) (va_Qv post (cr_Bh D d (va_A ws H.size) wf) (va_A ws H.size)) 0 0 (va_A ws H.size)) (cw : CallW R s args own C idx y bytes maxL ret (ws_ y bytes maxL ret) rm 0 0 n) (hK : va_K D vwCl [(d, .int)] s) (hP : va_P D vwCl ws H) (hD : va_D A ws) (hS : va_S A H0 H locs) (hA : ∀ q, H0.size ≤ q → A q) (hci : vwCl[ci]? = some (C, T, N)) (he : ws[0]? = some (b, .inr (ci, fs))) (hn : As.length = n) (hsz : ls.size = nL) (hst : st = As.reverse ++ .ref b :: rest) (hro : (rest.map fun v => v.category).sum ≤ 8) (hdg : decode cc pc = .ok (.invokevirtual idx, 3)) (hf : cells ≤ R.cells ∧ slots ≤ R.slots)
    (kk : ∀ (u : S) (H1 : Heap) (locs1 : List Loc), post u → va_P D vwCl (wf u) H1 → va_D A (wf u) → va_S A H0 H1 locs1 → W p l e R s m args below meth c H1 locs1 cells slots Q (F0 m (pc + 3) ls rest)) : W p l e R s m args below meth c H locs cells slots Q (F0 m pc ls st) := by
  have hFc : ∀ q, va_A ws H.size q → A q := by
    intro q h
    rcases h with ⟨k, e, h⟩ | h
    · exact hD.2 k (q, e) h
    · exact hA q (Nat.le_trans hS.1 h)
  refine va_callv (va_runV (As := As) (rest := rest) F hM cw ⟨cr_blind, va_recv hK hP hci he, fun U hU hW => ⟨rfl, by rw [hU], by rw [hU]; exact hP, va_K.moved hW.alike hK, hD.weaken (fun _ _ _ _ => trivial)⟩⟩ rfl hn hsz hst (lv_room hro) hdg hf) hS (fun q _ h => hFc q h) hFc (fun u t H1 locs1 ht hvm hw hB hz1 hk1 hS1 => ?_)
  obtain ⟨hP1, hK1, hD1⟩ := hB
  rw [ht] at hP1
  exact kk u H1 locs1 hw hP1 (hD1.weaken (fun _ q _ h => hFc q.1 h)) hS1
/-- a static call that needs no cell; an int comes back -/
theorem cr_stati {post : Int32 → Unit → Prop} (F : CallFix p m c cc nL s args lw_all own) (hM : Met l y (ws_ y bytes maxL ret) rm (va_Pc As (cr_Pre D d [] H.size)) (va_Qi post (cr_Bh D d (va_A [] H.size) (fun _ => [])) (va_A [] H.size)) 0 0 (va_A [] H.size)) (cw : CallB R s args own idx y bytes maxL ret (ws_ y bytes maxL ret) rm 0 0 n ∧ (Cond.static y).before args s = true) (hK : va_K D vwCl [(d, .int)] s) (hP : va_P D vwCl ws H) (hS : va_S A H0 H locs) (hA : ∀ q, H0.size ≤ q → A q) (hn : As.length = n) (hsz : ls.size = nL) (hst : st = As.reverse ++ rest) (hro : (rest.map fun v => v.category).sum ≤ 8) (hdg : decode cc pc = .ok (.invokestatic idx, 3)) (hf : cells ≤ R.cells ∧ slots ≤ R.slots)
    (kk : ∀ (r : Int32) (H1 : Heap) (locs1 : List Loc), post r () → va_P D vwCl ws H1 → va_S A H0 H1 locs1 → W p l e R s m args below meth c H1 locs1 cells slots Q (F0 m (pc + 3) ls (.int r :: rest))) : W p l e R s m args below meth c H locs cells slots Q (F0 m pc ls st) := by
  have hFc : ∀ q, va_A [] H.size q → A q := by
    intro q h
    rcases h with ⟨k, e, h⟩ | h
    · cases h
    · exact hA q (Nat.le_trans hS.1 h)
  refine va_calli (va_runS (As := As) (rest := rest) F hM cw ⟨cr_blind, fun U hU hW => ⟨rfl, by rw [hU], fun k q h => (by cases h), va_K.moved hW.alike hK, ⟨fun i j p q h => (by cases h), fun k q h => (by cases h)⟩⟩⟩ rfl hn hsz hst (lv_room hro) hdg hf) hS (fun q _ h => hFc q h) hFc (fun r u t H1 locs1 ht hvm hw hB hz1 hk1 hS1 => ?_)
  refine kk r H1 locs1 hw (hP.kept (fun k q hq => hk1 q.1 (hP k q hq).lt (fun h => ?_))) hS1
  have hl := (hP k q hq).lt
  rcases h with ⟨k2, e, h⟩ | h
  · cases h
  · omega
/-- the same, a part of the world handed over -/
theorem cr_parti {S : Type} {post : Int32 → S → Prop} {wf : S → va_W} (F : CallFix p m c cc nL s args lw_all own) (hM : Met l y (ws_ y bytes maxL ret) rm (va_Pc (.ref b :: As) (cr_Pre D d wc H.size)) (va_Qi post (cr_Bh D d (va_A wc H.size) wf) (va_A wc H.size)) 0 0 (va_A wc H.size)) (cw : CallW R s args own C idx y bytes maxL ret (ws_ y bytes maxL ret) rm 0 0 n) (hK : va_K D vwCl [(d, .int)] s) (hP : va_P D vwCl ws H) (hD : va_D A ws) (hS : va_S A H0 H locs) (hA : ∀ q, H0.size ≤ q → A q) (isC isR : List Nat) (hC : isC.map (fun i => ws[i]?) = wc.map some) (hR : isR.map (fun i => ws[i]?) = wr.map some) (hnC : va_nd isC = true) (hnR : va_nd isR = true) (hdis : ∀ i ∈ isR, i ∉ isC) (hPc : va_P D vwCl wc H) (hci : vwCl[ci]? = some (C, T, N)) (he : wc[0]? = some (b, .inr (ci, fs))) (hn : As.length = n) (hsz : ls.size = nL) (hst : st = As.reverse ++ .ref b :: rest) (hro : (rest.map fun v => v.category).sum ≤ 8) (hdg : decode cc pc = .ok (.invokevirtual idx, 3)) (hf : cells ≤ R.cells ∧ slots ≤ R.slots)
    (kk : ∀ (r : Int32) (u : S) (H1 : Heap) (locs1 : List Loc), post r u → va_P D vwCl (wr ++ wf u) H1 → va_D A (wr ++ wf u) → va_S A H0 H1 locs1 → W p l e R s m args below meth c H1 locs1 cells slots Q (F0 m (pc + 3) ls (.int r :: rest))) : W p l e R s m args below meth c H locs cells slots Q (F0 m pc ls st) := by
  have hDc := hD.sub (ws' := wc) isC hnC hC
  have hFc := va_free (wc := wc) hD hS hA isC hC
  refine va_calli (va_runV (As := As) (rest := rest) F hM cw ⟨cr_blind, va_recv hK hPc hci he, fun U hU hW => ⟨rfl, by rw [hU], by rw [hU]; exact hPc, va_K.moved hW.alike hK, hDc.weaken (fun _ _ _ _ => trivial)⟩⟩ rfl hn hsz hst (lv_room hro) hdg hf) hS (fun q _ h => hFc q h) hFc (fun r u t H1 locs1 ht hvm hw hB hz1 hk1 hS1 => ?_)
  obtain ⟨hP1, hK1, hD1⟩ := hB
  rw [ht] at hP1
  obtain ⟨hP2, hD2⟩ := va_join (wr := wr) (w1 := wf u) hP hD isC isR hC hR hnR hdis hk1 hFc hP1 hD1
  exact kk r u H1 locs1 hw hP2 hD2 hS1
end CRW
/-- the world of a CirculationRange: the object and its ten arrays -/
abbrev xw (d : ClassId) (h : Nat → Nat) (cnt nd sn : Int32) (fr to lo hi ta he ro fl bY qu : Nat → Int32) : va_W := [(h 0, .inr (0, [.int cnt, .ref (h 1), .ref (h 2), .ref (h 3), .ref (h 4), .ref (h 5), .ref (h 6), .ref (h 7), .ref (h 8), .int nd, .int sn, .ref (h 9), .ref (h 10)])), (h 1, .inl (d, 12, .inl fr)), (h 2, .inl (d, 12, .inl to)), (h 3, .inl (d, 12, .inl lo)), (h 4, .inl (d, 12, .inl hi)), (h 5, .inl (d, 25, .inl ta)), (h 6, .inl (d, 25, .inl he)), (h 7, .inl (d, 25, .inl ro)), (h 8, .inl (d, 25, .inl fl)), (h 9, .inl (d, 8, .inl bY)), (h 10, .inl (d, 8, .inl qu))]
/-- the world of a CirculationRangeModel: the object and its four arrays -/
abbrev mw (d : ClassId) (h : Nat → Nat) (cnt : Int32) (mt mh ml mi : Nat → Int32) : va_W := [(h 0, .inr (1, [.ref (h 1), .ref (h 2), .ref (h 3), .ref (h 4), .int cnt])), (h 1, .inl (d, 13, .inl mt)), (h 2, .inl (d, 13, .inl mh)), (h 3, .inl (d, 13, .inl ml)), (h 4, .inl (d, 13, .inl mi))]
end
section
/-! MODULE CirculationRange, leaves: contracts -/
theorem cr_nle {a b : Nat} (ha : a < 2 ^ 31) (hb : b < 2 ^ 31) (h : ¬ nI a ≤ nI b) : b < a := by rw [nI_leI ha hb] at h; omega
theorem cr_le {a b : Nat} (ha : a < 2 ^ 31) (hb : b < 2 ^ 31) (h : nI a ≤ nI b) : a ≤ b := by rw [nI_leI ha hb] at h; exact h
theorem cr_eq {a b : Nat} (ha : a < 2 ^ 31) (hb : b < 2 ^ 31) (h : nI a = nI b) : a = b := by rw [nI_eq ha hb] at h; exact h
theorem cr_ne {a b : Nat} (ha : a < 2 ^ 31) (hb : b < 2 ^ 31) (h : ¬ nI a = nI b) : a ≠ b := by rw [nI_eq ha hb] at h; exact h
/-- what across answers -/
def cr_Acr (T G : Nat → Nat) (ro fl : Nat → Int32) (e v : Nat) (r : Int32) : Prop := (r = nI (G e) ∧ T e = v ∧ (fl e).toInt < (ro e).toInt) ∨ (r = nI (T e) ∧ T e ≠ v ∧ G e = v ∧ 0 < (fl e).toInt) ∨ (r = -1 ∧ ¬ (T e = v ∧ (fl e).toInt < (ro e).toInt) ∧ ¬ (G e = v ∧ 0 < (fl e).toInt))
set_option maxHeartbeats 4000000 in
set_option maxRecDepth 100000 in
/-- badVertex(v) -/
theorem metX0_badVertex (l : Launch) (D : va_G) (d : ClassId) (sz : Nat) (v : Int32) : cr_Mi l D d [] sz yX0_badVertex cX0_badVertex 1 (some .boolean) 0 0 [.int v] (S := Unit) (fun r _ => r = if 0 ≤ v.toInt ∧ v.toInt < 6 then 0 else 1) (fun _ => []) := by
  refine cr_begin (Qc := fun A => va_Qi _ (cr_Bh D d A _) A) (by decide) (Nat.le_of_ble_eq_true rfl) ?_
  intro p env s m below meth c A ls hx hb hr hml hts hown hlocks hA hP hK hD hS hl
  have hl : lv_has ls 1 [(0, .int v)] := hl
  refine lv_iload_n hx hb dX0_badVertex_0 rfl (lv_at hl 0 rfl) ?_
  refine lv_if_lt (tgt := 10) hx hb dX0_badVertex_1 (by decide) (fun c1 => ?_) (fun c1 => ?_)
  · refine lv_iconst (v := (nI 1)) hx hb dX0_badVertex_10 (by decide) ?_
    refine lv_goto (tgt := 15) hx hb dX0_badVertex_11 (by decide) ?_
    have q : ¬ (0 ≤ v.toInt ∧ v.toInt < 6) := by
      (try rw [cr_lt0] at c1)
      (try rw [Int32.lt_iff_toInt_lt, show (nI 6).toInt = 6 from rfl] at c2)
      omega
    exact cr_zret () hx hb hr hlocks rfl hK hP hD hS dX0_badVertex_15 (by rw [if_neg q]; rfl)
  · refine lv_iload_n hx hb dX0_badVertex_4 rfl (lv_at hl 0 rfl) ?_
    refine lv_bipush (v := (nI 6)) hx hb dX0_badVertex_5 (by decide) ?_
    refine lv_icmp_lt (tgt := 14) hx hb dX0_badVertex_7 (by decide) (fun c2 => ?_) (fun c2 => ?_)
    · refine lv_iconst (v := (nI 0)) hx hb dX0_badVertex_14 (by decide) ?_
      have q : 0 ≤ v.toInt ∧ v.toInt < 6 := by
        rw [cr_lt0] at c1
        rw [Int32.lt_iff_toInt_lt, show (nI 6).toInt = 6 from rfl] at c2
        omega
      exact cr_zret () hx hb hr hlocks rfl hK hP hD hS dX0_badVertex_15 (by rw [if_pos q]; rfl)
    · refine lv_iconst (v := (nI 1)) hx hb dX0_badVertex_10 (by decide) ?_
      refine lv_goto (tgt := 15) hx hb dX0_badVertex_11 (by decide) ?_
      have q : ¬ (0 ≤ v.toInt ∧ v.toInt < 6) := by
        (try rw [cr_lt0] at c1)
        (try rw [Int32.lt_iff_toInt_lt, show (nI 6).toInt = 6 from rfl] at c2)
        omega
      exact cr_zret () hx hb hr hlocks rfl hK hP hD hS dX0_badVertex_15 (by rw [if_neg q]; rfl)
set_option maxHeartbeats 4000000 in
set_option maxRecDepth 100000 in
/-- noArc(a) -/
theorem metX0_noArc (l : Launch) (D : va_G) (d : ClassId) (h : Nat → Nat) (sz : Nat) (cnt nd sn : Int32) (fr to lo hi ta he ro fl bY qu : Nat → Int32) (n : Nat) (a : Int32) (hn : cnt = nI n) (hn2 : n < 2 ^ 31) : cr_Mi l D d (xw d h cnt nd sn fr to lo hi ta he ro fl bY qu) sz yX0_noArc cX0_noArc 2 (some .boolean) 0 0 [.ref (h 0), .int a] (S := Unit) (fun r _ => r = if 0 ≤ a.toInt ∧ a.toInt < n then 0 else 1) (fun _ => xw d h cnt nd sn fr to lo hi ta he ro fl bY qu) := by
  refine cr_begin (Qc := fun A => va_Qi _ (cr_Bh D d A _) A) (by decide) (Nat.le_of_ble_eq_true rfl) ?_
  intro p env s m below meth c A ls hx hb hr hml hts hown hlocks hA hP hK hD hS hl
  have hown : s.vm.findClass RX0 = some m.cls := hown
  have hl : lv_has ls 2 [(0, .ref (h 0)), (1, .int a)] := hl
  refine lv_iload_n hx hb dX0_noArc_0 rfl (lv_at hl 1 rfl) ?_
  refine lv_if_lt (tgt := 12) hx hb dX0_noArc_1 (by decide) (fun c1 => ?_) (fun c1 => ?_)
  · refine lv_iconst (v := (nI 1)) hx hb dX0_noArc_12 (by decide) ?_
    refine lv_goto (tgt := 17) hx hb dX0_noArc_13 (by decide) ?_
    have q : ¬ (0 ≤ a.toInt ∧ a.toInt < n) := by
      (try rw [cr_lt0] at c1)
      (try rw [Int32.lt_iff_toInt_lt, hn, nI_toInt hn2] at c2)
      omega
    exact cr_zret () hx hb hr hlocks rfl hK hP hD hS dX0_noArc_17 (by rw [if_neg q]; rfl)
  · refine lv_iload_n hx hb dX0_noArc_4 rfl (lv_at hl 1 rfl) ?_
    refine lv_aload_n hx hb dX0_noArc_5 rfl (lv_at hl 0 rfl) ?_
    refine va_get (D := D) (ci := 0) (v := .int cnt) (C := RX0) (T := TX0) (N := 13) hx hb hts in_X0 hown hK hP 0 rfl rfl 0 (by decide) (hts _ q26) (fun _ h9 => h9) rfl dX0_noArc_6 ?_
    refine lv_icmp_lt (tgt := 16) hx hb dX0_noArc_9 (by decide) (fun c2 => ?_) (fun c2 => ?_)
    · refine lv_iconst (v := (nI 0)) hx hb dX0_noArc_16 (by decide) ?_
      have q : 0 ≤ a.toInt ∧ a.toInt < n := by
        rw [cr_lt0] at c1
        rw [Int32.lt_iff_toInt_lt, hn, nI_toInt hn2] at c2
        omega
      exact cr_zret () hx hb hr hlocks rfl hK hP hD hS dX0_noArc_17 (by rw [if_pos q]; rfl)
    · refine lv_iconst (v := (nI 1)) hx hb dX0_noArc_12 (by decide) ?_
      refine lv_goto (tgt := 17) hx hb dX0_noArc_13 (by decide) ?_
      have q : ¬ (0 ≤ a.toInt ∧ a.toInt < n) := by
        (try rw [cr_lt0] at c1)
        (try rw [Int32.lt_iff_toInt_lt, hn, nI_toInt hn2] at c2)
        omega
      exact cr_zret () hx hb hr hlocks rfl hK hP hD hS dX0_noArc_17 (by rw [if_neg q]; rfl)
set_option maxHeartbeats 4000000 in
set_option maxRecDepth 100000 in
/-- setEdge(e, x, y, most) -/
theorem metX0_setEdge (l : Launch) (D : va_G) (d : ClassId) (h : Nat → Nat) (sz : Nat) (cnt nd sn : Int32) (fr to lo hi ta he ro fl bY qu : Nat → Int32) (e : Nat) (x y z : Int32) (he25 : e < 25) : cr_Mv l D d (xw d h cnt nd sn fr to lo hi ta he ro fl bY qu) sz yX0_setEdge cX0_setEdge 5 0 0 [.ref (h 0), .int (nI e), .int x, .int y, .int z] (S := Unit) (fun _ => True) (fun _ => xw d h cnt nd sn fr to lo hi (upd ta e x) (upd he e y) (upd ro e z) (upd fl e (nI 0)) bY qu) := by
  refine cr_begin (Qc := fun A => va_Qv _ (cr_Bh D d A _) A) (by decide) (Nat.le_of_ble_eq_true rfl) ?_
  intro p env s m below meth c A ls hx hb hr hml hts hown hlocks hA hP hK hD hS hl
  have hown : s.vm.findClass RX0 = some m.cls := hown
  have hl : lv_has ls 5 [(0, .ref (h 0)), (1, .int (nI e)), (2, .int x), (3, .int y), (4, .int z)] := hl
  refine lv_aload_n hx hb dX0_setEdge_0 rfl (lv_at hl 0 rfl) ?_
  refine va_get (D := D) (ci := 0) (v := .ref (h 5)) (C := RX0) (T := TX0) (N := 13) hx hb hts in_X0 hown hK hP 0 rfl rfl 5 (by decide) (hts _ q31) (fun _ h9 => h9) rfl dX0_setEdge_1 ?_
  refine lv_iload_n hx hb dX0_setEdge_4 rfl (lv_at hl 1 rfl) ?_
  refine lv_iload_n hx hb dX0_setEdge_5 rfl (lv_at hl 2 rfl) ?_
  refine va_iast hx hb hK hP hD hS 5 0 rfl rfl (vp_in_nI (show e < 25 by omega) (by decide)) dX0_setEdge_6 (fun H locs hP hD hS => ?_)
  rw [nI_clamp (show e < 2 ^ 31 by omega)] at hP hD
  have hP : va_P D vwCl (xw d h cnt nd sn fr to lo hi (upd ta e x) he ro fl bY qu) H := hP
  have hD : va_D A (xw d h cnt nd sn fr to lo hi (upd ta e x) he ro fl bY qu) := hD
  refine lv_aload_n hx hb dX0_setEdge_7 rfl (lv_at hl 0 rfl) ?_
  refine va_get (D := D) (ci := 0) (v := .ref (h 6)) (C := RX0) (T := TX0) (N := 13) hx hb hts in_X0 hown hK hP 0 rfl rfl 6 (by decide) (hts _ q32) (fun _ h9 => h9) rfl dX0_setEdge_8 ?_
  refine lv_iload_n hx hb dX0_setEdge_11 rfl (lv_at hl 1 rfl) ?_
  refine lv_iload_n hx hb dX0_setEdge_12 rfl (lv_at hl 3 rfl) ?_
  refine va_iast hx hb hK hP hD hS 6 0 rfl rfl (vp_in_nI (show e < 25 by omega) (by decide)) dX0_setEdge_13 (fun H locs hP hD hS => ?_)
  rw [nI_clamp (show e < 2 ^ 31 by omega)] at hP hD
  have hP : va_P D vwCl (xw d h cnt nd sn fr to lo hi (upd ta e x) (upd he e y) ro fl bY qu) H := hP
  have hD : va_D A (xw d h cnt nd sn fr to lo hi (upd ta e x) (upd he e y) ro fl bY qu) := hD
  refine lv_aload_n hx hb dX0_setEdge_14 rfl (lv_at hl 0 rfl) ?_
  refine va_get (D := D) (ci := 0) (v := .ref (h 7)) (C := RX0) (T := TX0) (N := 13) hx hb hts in_X0 hown hK hP 0 rfl rfl 7 (by decide) (hts _ q33) (fun _ h9 => h9) rfl dX0_setEdge_15 ?_
  refine lv_iload_n hx hb dX0_setEdge_18 rfl (lv_at hl 1 rfl) ?_
  refine lv_iload hx hb dX0_setEdge_19 (lv_at hl 4 rfl) ?_
  refine va_iast hx hb hK hP hD hS 7 0 rfl rfl (vp_in_nI (show e < 25 by omega) (by decide)) dX0_setEdge_21 (fun H locs hP hD hS => ?_)
  rw [nI_clamp (show e < 2 ^ 31 by omega)] at hP hD
  have hP : va_P D vwCl (xw d h cnt nd sn fr to lo hi (upd ta e x) (upd he e y) (upd ro e z) fl bY qu) H := hP
  have hD : va_D A (xw d h cnt nd sn fr to lo hi (upd ta e x) (upd he e y) (upd ro e z) fl bY qu) := hD
  refine lv_aload_n hx hb dX0_setEdge_22 rfl (lv_at hl 0 rfl) ?_
  refine va_get (D := D) (ci := 0) (v := .ref (h 8)) (C := RX0) (T := TX0) (N := 13) hx hb hts in_X0 hown hK hP 0 rfl rfl 8 (by decide) (hts _ q34) (fun _ h9 => h9) rfl dX0_setEdge_23 ?_
  refine lv_iload_n hx hb dX0_setEdge_26 rfl (lv_at hl 1 rfl) ?_
  refine lv_iconst (v := (nI 0)) hx hb dX0_setEdge_27 (by decide) ?_
  refine va_iast hx hb hK hP hD hS 8 0 rfl rfl (vp_in_nI (show e < 25 by omega) (by decide)) dX0_setEdge_28 (fun H locs hP hD hS => ?_)
  rw [nI_clamp (show e < 2 ^ 31 by omega)] at hP hD
  have hP : va_P D vwCl (xw d h cnt nd sn fr to lo hi (upd ta e x) (upd he e y) (upd ro e z) (upd fl e (nI 0)) bY qu) H := hP
  have hD : va_D A (xw d h cnt nd sn fr to lo hi (upd ta e x) (upd he e y) (upd ro e z) (upd fl e (nI 0)) bY qu) := hD
  exact cr_vret () hx hb hr hlocks hK hP hD hS dX0_setEdge_29 (trivial)
set_option maxHeartbeats 4000000 in
set_option maxRecDepth 100000 in
/-- across(e, v) -/
theorem metX0_across (l : Launch) (D : va_G) (d : ClassId) (h : Nat → Nat) (sz : Nat) (cnt nd sn : Int32) (fr to lo hi ta he ro fl bY qu : Nat → Int32) (T G : Nat → Nat) (e v : Nat) (hE : cr_Ends T G ta he) (hV : cr_Val T G ro fl) (he25 : e < 25) (hv8 : v < 8) : cr_Mi l D d (xw d h cnt nd sn fr to lo hi ta he ro fl bY qu) sz yX0_across cX0_across 3 (some .int) 0 0 [.ref (h 0), .int (nI e), .int (nI v)] (S := Unit) (fun r _ => cr_Acr T G ro fl e v r) (fun _ => xw d h cnt nd sn fr to lo hi ta he ro fl bY qu) := by
  refine cr_begin (Qc := fun A => va_Qi _ (cr_Bh D d A _) A) (by decide) (Nat.le_of_ble_eq_true rfl) ?_
  intro p env s m below meth c A ls hx hb hr hml hts hown hlocks hA hP hK hD hS hl
  have hown : s.vm.findClass RX0 = some m.cls := hown
  have hl : lv_has ls 3 [(0, .ref (h 0)), (1, .int (nI e)), (2, .int (nI v))] := hl
  obtain ⟨t1, t2, t3, t4⟩ := hE e he25
  obtain ⟨f1, f2, f3, f4⟩ := hV e he25
  refine lv_aload_n hx hb dX0_across_0 rfl (lv_at hl 0 rfl) ?_
  refine va_get (D := D) (ci := 0) (v := .ref (h 5)) (C := RX0) (T := TX0) (N := 13) hx hb hts in_X0 hown hK hP 0 rfl rfl 5 (by decide) (hts _ q31) (fun _ h9 => h9) rfl dX0_across_1 ?_
  refine lv_iload_n hx hb dX0_across_4 rfl (lv_at hl 1 rfl) ?_
  refine va_iald hx hb hK hP 5 0 rfl rfl (vp_in_nI (show e < 25 by omega) (by decide)) dX0_across_5 ?_
  refine lv_topi (fun y9 ey9 => ?_)
  obtain rfl : y9 = ta e := ey9.trans (congrArg ta (nI_clamp (show e < 2 ^ 31 by omega)))
  refine lv_iload_n hx hb dX0_across_6 rfl (lv_at hl 2 rfl) ?_
  refine lv_icmp_ne (tgt := 32) hx hb dX0_across_7 (by decide) (fun c1 => ?_) (fun c1 => ?_)
  · refine lv_aload_n hx hb dX0_across_32 rfl (lv_at hl 0 rfl) ?_
    refine va_get (D := D) (ci := 0) (v := .ref (h 6)) (C := RX0) (T := TX0) (N := 13) hx hb hts in_X0 hown hK hP 0 rfl rfl 6 (by decide) (hts _ q32) (fun _ h9 => h9) rfl dX0_across_33 ?_
    refine lv_iload_n hx hb dX0_across_36 rfl (lv_at hl 1 rfl) ?_
    refine va_iald hx hb hK hP 6 0 rfl rfl (vp_in_nI (show e < 25 by omega) (by decide)) dX0_across_37 ?_
    refine lv_topi (fun y9 ey9 => ?_)
    obtain rfl : y9 = he e := ey9.trans (congrArg he (nI_clamp (show e < 2 ^ 31 by omega)))
    refine lv_iload_n hx hb dX0_across_38 rfl (lv_at hl 2 rfl) ?_
    have n1 : ¬ (T e = v ∧ (fl e).toInt < (ro e).toInt) := by
      intro q
      first | exact c1 (by rw [t1, q.1]) | (rw [Int32.le_iff_toInt_le] at c2; omega)
    refine lv_icmp_ne (tgt := 58) hx hb dX0_across_39 (by decide) (fun c3 => ?_) (fun c3 => ?_)
    · refine lv_iconst (v := (-1)) hx hb dX0_across_58 (by decide) ?_
      exact cr_iret () hx hb hr hlocks hK hP hD hS dX0_across_59 (Or.inr (Or.inr ⟨rfl, n1, fun q => c3 (by rw [t2, q.1])⟩))
    · refine lv_aload_n hx hb dX0_across_42 rfl (lv_at hl 0 rfl) ?_
      refine va_get (D := D) (ci := 0) (v := .ref (h 8)) (C := RX0) (T := TX0) (N := 13) hx hb hts in_X0 hown hK hP 0 rfl rfl 8 (by decide) (hts _ q34) (fun _ h9 => h9) rfl dX0_across_43 ?_
      refine lv_iload_n hx hb dX0_across_46 rfl (lv_at hl 1 rfl) ?_
      refine va_iald hx hb hK hP 8 0 rfl rfl (vp_in_nI (show e < 25 by omega) (by decide)) dX0_across_47 ?_
      refine lv_topi (fun y9 ey9 => ?_)
      obtain rfl : y9 = fl e := ey9.trans (congrArg fl (nI_clamp (show e < 2 ^ 31 by omega)))
      refine lv_if_le (tgt := 58) hx hb dX0_across_48 (by decide) (fun c4 => ?_) (fun c4 => ?_)
      · refine lv_iconst (v := (-1)) hx hb dX0_across_58 (by decide) ?_
        exact cr_iret () hx hb hr hlocks hK hP hD hS dX0_across_59 (Or.inr (Or.inr ⟨rfl, n1, fun q => by rw [cr_le0] at c4; omega⟩))
      · refine lv_aload_n hx hb dX0_across_51 rfl (lv_at hl 0 rfl) ?_
        refine va_get (D := D) (ci := 0) (v := .ref (h 5)) (C := RX0) (T := TX0) (N := 13) hx hb hts in_X0 hown hK hP 0 rfl rfl 5 (by decide) (hts _ q31) (fun _ h9 => h9) rfl dX0_across_52 ?_
        refine lv_iload_n hx hb dX0_across_55 rfl (lv_at hl 1 rfl) ?_
        refine va_iald hx hb hK hP 5 0 rfl rfl (vp_in_nI (show e < 25 by omega) (by decide)) dX0_across_56 ?_
        refine lv_topi (fun y9 ey9 => ?_)
        obtain rfl : y9 = ta e := ey9.trans (congrArg ta (nI_clamp (show e < 2 ^ 31 by omega)))
        have g0 : 0 < (fl e).toInt := by rw [cr_le0] at c4; omega
        have g1 : G e = v := cr_eq (by omega) (by omega) (t2.symm.trans c3)
        exact cr_iret () hx hb hr hlocks hK hP hD hS dX0_across_57 (Or.inr (Or.inl ⟨t1, fun q => by have := f4 (q.trans g1.symm); omega, g1, g0⟩))
  · refine lv_aload_n hx hb dX0_across_10 rfl (lv_at hl 0 rfl) ?_
    refine va_get (D := D) (ci := 0) (v := .ref (h 8)) (C := RX0) (T := TX0) (N := 13) hx hb hts in_X0 hown hK hP 0 rfl rfl 8 (by decide) (hts _ q34) (fun _ h9 => h9) rfl dX0_across_11 ?_
    refine lv_iload_n hx hb dX0_across_14 rfl (lv_at hl 1 rfl) ?_
    refine va_iald hx hb hK hP 8 0 rfl rfl (vp_in_nI (show e < 25 by omega) (by decide)) dX0_across_15 ?_
    refine lv_topi (fun y9 ey9 => ?_)
    obtain rfl : y9 = fl e := ey9.trans (congrArg fl (nI_clamp (show e < 2 ^ 31 by omega)))
    refine lv_aload_n hx hb dX0_across_16 rfl (lv_at hl 0 rfl) ?_
    refine va_get (D := D) (ci := 0) (v := .ref (h 7)) (C := RX0) (T := TX0) (N := 13) hx hb hts in_X0 hown hK hP 0 rfl rfl 7 (by decide) (hts _ q33) (fun _ h9 => h9) rfl dX0_across_17 ?_
    refine lv_iload_n hx hb dX0_across_20 rfl (lv_at hl 1 rfl) ?_
    refine va_iald hx hb hK hP 7 0 rfl rfl (vp_in_nI (show e < 25 by omega) (by decide)) dX0_across_21 ?_
    refine lv_topi (fun y9 ey9 => ?_)
    obtain rfl : y9 = ro e := ey9.trans (congrArg ro (nI_clamp (show e < 2 ^ 31 by omega)))
    refine lv_icmp_ge (tgt := 32) hx hb dX0_across_22 (by decide) (fun c2 => ?_) (fun c2 => ?_)
    · refine lv_aload_n hx hb dX0_across_32 rfl (lv_at hl 0 rfl) ?_
      refine va_get (D := D) (ci := 0) (v := .ref (h 6)) (C := RX0) (T := TX0) (N := 13) hx hb hts in_X0 hown hK hP 0 rfl rfl 6 (by decide) (hts _ q32) (fun _ h9 => h9) rfl dX0_across_33 ?_
      refine lv_iload_n hx hb dX0_across_36 rfl (lv_at hl 1 rfl) ?_
      refine va_iald hx hb hK hP 6 0 rfl rfl (vp_in_nI (show e < 25 by omega) (by decide)) dX0_across_37 ?_
      refine lv_topi (fun y9 ey9 => ?_)
      obtain rfl : y9 = he e := ey9.trans (congrArg he (nI_clamp (show e < 2 ^ 31 by omega)))
      refine lv_iload_n hx hb dX0_across_38 rfl (lv_at hl 2 rfl) ?_
      have n1 : ¬ (T e = v ∧ (fl e).toInt < (ro e).toInt) := by
        intro q
        first | exact c1 (by rw [t1, q.1]) | (rw [Int32.le_iff_toInt_le] at c2; omega)
      refine lv_icmp_ne (tgt := 58) hx hb dX0_across_39 (by decide) (fun c3 => ?_) (fun c3 => ?_)
      · refine lv_iconst (v := (-1)) hx hb dX0_across_58 (by decide) ?_
        exact cr_iret () hx hb hr hlocks hK hP hD hS dX0_across_59 (Or.inr (Or.inr ⟨rfl, n1, fun q => c3 (by rw [t2, q.1])⟩))
      · refine lv_aload_n hx hb dX0_across_42 rfl (lv_at hl 0 rfl) ?_
        refine va_get (D := D) (ci := 0) (v := .ref (h 8)) (C := RX0) (T := TX0) (N := 13) hx hb hts in_X0 hown hK hP 0 rfl rfl 8 (by decide) (hts _ q34) (fun _ h9 => h9) rfl dX0_across_43 ?_
        refine lv_iload_n hx hb dX0_across_46 rfl (lv_at hl 1 rfl) ?_
        refine va_iald hx hb hK hP 8 0 rfl rfl (vp_in_nI (show e < 25 by omega) (by decide)) dX0_across_47 ?_
        refine lv_topi (fun y9 ey9 => ?_)
        obtain rfl : y9 = fl e := ey9.trans (congrArg fl (nI_clamp (show e < 2 ^ 31 by omega)))
        refine lv_if_le (tgt := 58) hx hb dX0_across_48 (by decide) (fun c4 => ?_) (fun c4 => ?_)
        · refine lv_iconst (v := (-1)) hx hb dX0_across_58 (by decide) ?_
          exact cr_iret () hx hb hr hlocks hK hP hD hS dX0_across_59 (Or.inr (Or.inr ⟨rfl, n1, fun q => by rw [cr_le0] at c4; omega⟩))
        · refine lv_aload_n hx hb dX0_across_51 rfl (lv_at hl 0 rfl) ?_
          refine va_get (D := D) (ci := 0) (v := .ref (h 5)) (C := RX0) (T := TX0) (N := 13) hx hb hts in_X0 hown hK hP 0 rfl rfl 5 (by decide) (hts _ q31) (fun _ h9 => h9) rfl dX0_across_52 ?_
          refine lv_iload_n hx hb dX0_across_55 rfl (lv_at hl 1 rfl) ?_
          refine va_iald hx hb hK hP 5 0 rfl rfl (vp_in_nI (show e < 25 by omega) (by decide)) dX0_across_56 ?_
          refine lv_topi (fun y9 ey9 => ?_)
          obtain rfl : y9 = ta e := ey9.trans (congrArg ta (nI_clamp (show e < 2 ^ 31 by omega)))
          have g0 : 0 < (fl e).toInt := by rw [cr_le0] at c4; omega
          have g1 : G e = v := cr_eq (by omega) (by omega) (t2.symm.trans c3)
          exact cr_iret () hx hb hr hlocks hK hP hD hS dX0_across_57 (Or.inr (Or.inl ⟨t1, fun q => by have := f4 (q.trans g1.symm); omega, g1, g0⟩))
    · refine lv_aload_n hx hb dX0_across_25 rfl (lv_at hl 0 rfl) ?_
      refine va_get (D := D) (ci := 0) (v := .ref (h 6)) (C := RX0) (T := TX0) (N := 13) hx hb hts in_X0 hown hK hP 0 rfl rfl 6 (by decide) (hts _ q32) (fun _ h9 => h9) rfl dX0_across_26 ?_
      refine lv_iload_n hx hb dX0_across_29 rfl (lv_at hl 1 rfl) ?_
      refine va_iald hx hb hK hP 6 0 rfl rfl (vp_in_nI (show e < 25 by omega) (by decide)) dX0_across_30 ?_
      refine lv_topi (fun y9 ey9 => ?_)
      obtain rfl : y9 = he e := ey9.trans (congrArg he (nI_clamp (show e < 2 ^ 31 by omega)))
      exact cr_iret () hx hb hr hlocks hK hP hD hS dX0_across_31 (Or.inl ⟨t2, cr_eq (by omega) (by omega) (t1.symm.trans c1), by rw [Int32.le_iff_toInt_le] at c2; omega⟩)
set_option maxHeartbeats 4000000 in
set_option maxRecDepth 100000 in
/-- roomOn(step) -/
theorem metX0_roomOn (l : Launch) (D : va_G) (d : ClassId) (h : Nat → Nat) (sz : Nat) (cnt nd sn : Int32) (fr to lo hi ta he ro fl bY qu : Nat → Int32) (st e : Nat) (he25 : e < 25) (hst : st / 2 = e) : cr_Mi l D d (xw d h cnt nd sn fr to lo hi ta he ro fl bY qu) sz yX0_roomOn cX0_roomOn 3 (some .int) 0 0 [.ref (h 0), .int (nI st)] (S := Unit) (fun r _ => r = if st % 2 = 0 then ro e - fl e else fl e) (fun _ => xw d h cnt nd sn fr to lo hi ta he ro fl bY qu) := by
  refine cr_begin (Qc := fun A => va_Qi _ (cr_Bh D d A _) A) (by decide) (Nat.le_of_ble_eq_true rfl) ?_
  intro p env s m below meth c A ls hx hb hr hml hts hown hlocks hA hP hK hD hS hl
  have hown : s.vm.findClass RX0 = some m.cls := hown
  have hl : lv_has ls 3 [(0, .ref (h 0)), (1, .int (nI st))] := hl
  have hs1 : nI st >>> (nI 1 &&& 31) = nI e := by rw [pk_shrN (by omega) _ 1 (by decide), Nat.pow_one, hst]
  have hs2 : nI st &&& nI 1 = nI (st % 2) := pk_andN (by omega) 1 (by decide)
  refine lv_iload_n hx hb dX0_roomOn_0 rfl (lv_at hl 1 rfl) ?_
  refine lv_iconst (v := (nI 1)) hx hb dX0_roomOn_1 (by decide) ?_
  refine lv_ishr hx hb dX0_roomOn_2 ?_
  refine lv_topi (fun y9 ey9 => ?_)
  obtain rfl : y9 = nI e := ey9.trans (hs1)
  refine lv_istore_n (lv' := [(2, .int (nI e)), (0, .ref (h 0)), (1, .int (nI st))]) hx hb dX0_roomOn_3 rfl hl (by decide) rfl (fun ls hl => ?_)
  refine lv_iload_n hx hb dX0_roomOn_4 rfl (lv_at hl 2 rfl) ?_
  refine lv_iconst (v := (nI 1)) hx hb dX0_roomOn_5 (by decide) ?_
  refine lv_iand hx hb dX0_roomOn_6 ?_
  refine lv_topi (fun y9 ey9 => ?_)
  obtain rfl : y9 = nI (st % 2) := ey9.trans (hs2)
  refine lv_if_ne (tgt := 26) hx hb dX0_roomOn_7 (by decide) (fun c1 => ?_) (fun c1 => ?_)
  · refine lv_aload_n hx hb dX0_roomOn_26 rfl (lv_at hl 1 rfl) ?_
    refine va_get (D := D) (ci := 0) (v := .ref (h 8)) (C := RX0) (T := TX0) (N := 13) hx hb hts in_X0 hown hK hP 0 rfl rfl 8 (by decide) (hts _ q34) (fun _ h9 => h9) rfl dX0_roomOn_27 ?_
    refine lv_iload_n hx hb dX0_roomOn_30 rfl (lv_at hl 0 rfl) ?_
    refine va_iald hx hb hK hP 8 0 rfl rfl (vp_in_nI (show e < 25 by omega) (by decide)) dX0_roomOn_31 ?_
    refine lv_topi (fun y9 ey9 => ?_)
    obtain rfl : y9 = fl e := ey9.trans (congrArg fl (nI_clamp (show e < 2 ^ 31 by omega)))
    exact cr_iret () hx hb hr hlocks hK hP hD hS dX0_roomOn_32 (by rw [if_neg (fun q => c1 (by rw [q]; rfl))])
  · refine lv_aload_n hx hb dX0_roomOn_10 rfl (lv_at hl 1 rfl) ?_
    refine va_get (D := D) (ci := 0) (v := .ref (h 7)) (C := RX0) (T := TX0) (N := 13) hx hb hts in_X0 hown hK hP 0 rfl rfl 7 (by decide) (hts _ q33) (fun _ h9 => h9) rfl dX0_roomOn_11 ?_
    refine lv_iload_n hx hb dX0_roomOn_14 rfl (lv_at hl 0 rfl) ?_
    refine va_iald hx hb hK hP 7 0 rfl rfl (vp_in_nI (show e < 25 by omega) (by decide)) dX0_roomOn_15 ?_
    refine lv_topi (fun y9 ey9 => ?_)
    obtain rfl : y9 = ro e := ey9.trans (congrArg ro (nI_clamp (show e < 2 ^ 31 by omega)))
    refine lv_aload_n hx hb dX0_roomOn_16 rfl (lv_at hl 1 rfl) ?_
    refine va_get (D := D) (ci := 0) (v := .ref (h 8)) (C := RX0) (T := TX0) (N := 13) hx hb hts in_X0 hown hK hP 0 rfl rfl 8 (by decide) (hts _ q34) (fun _ h9 => h9) rfl dX0_roomOn_17 ?_
    refine lv_iload_n hx hb dX0_roomOn_20 rfl (lv_at hl 0 rfl) ?_
    refine va_iald hx hb hK hP 8 0 rfl rfl (vp_in_nI (show e < 25 by omega) (by decide)) dX0_roomOn_21 ?_
    refine lv_topi (fun y9 ey9 => ?_)
    obtain rfl : y9 = fl e := ey9.trans (congrArg fl (nI_clamp (show e < 2 ^ 31 by omega)))
    refine lv_isub hx hb dX0_roomOn_22 ?_
    refine lv_goto (tgt := 32) hx hb dX0_roomOn_23 (by decide) ?_
    exact cr_iret () hx hb hr hlocks hK hP hD hS dX0_roomOn_32 (by rw [if_pos (cr_eq (by omega) (by decide) (show nI (st % 2) = nI 0 from c1))])
end
section
/-! PLAIN: the search's loops -/
/-- within the loop over the edges, at vertex v (the i-th of the queue), e edges looked at -/
def cr_In (T G : Nat → Nat) (ro fl : Nat → Int32) (wo : Int32) (x : Nat) (bY qu : Nat → Int32) (rk : Nat → Nat) (en i v e : Nat) : Prop := cr_Bfs T G ro fl wo x bY qu rk en ∧ i < en ∧ v < 8 ∧ 0 ≤ (bY v).toInt ∧ rk v = i ∧ (∀ u, u < 8 → 0 ≤ (bY u).toInt → rk u < i → ∀ k, k < 25 → cr_Clo T G ro fl wo bY k u) ∧ ∀ k, k < e → cr_Clo T G ro fl wo bY k v
def cr_Out (T G : Nat → Nat) (ro fl : Nat → Int32) (wo : Int32) (x : Nat) (bY qu : Nat → Int32) (rk : Nat → Nat) (en i : Nat) : Prop := cr_Bfs T G ro fl wo x bY qu rk en ∧ i ≤ en ∧ ∀ u, u < 8 → 0 ≤ (bY u).toInt → rk u < i → ∀ k, k < 25 → cr_Clo T G ro fl wo bY k u
theorem cr_In_skip {T G : Nat → Nat} {ro fl : Nat → Int32} {wo : Int32} {x : Nat} {bY qu : Nat → Int32} {rk : Nat → Nat} {en i v e : Nat} (h : cr_In T G ro fl wo x bY qu rk en i v e) (hc : cr_Clo T G ro fl wo bY e v) : cr_In T G ro fl wo x bY qu rk en i v (e + 1) := by
  obtain ⟨h1, h2, h3, h4, h5, h6, h7⟩ := h
  refine ⟨h1, h2, h3, h4, h5, h6, fun k hk => ?_⟩
  by_cases q : k = e
  · rw [q]; exact hc
  · exact h7 k (by omega)
theorem cr_In_add {T G : Nat → Nat} {ro fl : Nat → Int32} {wo : Int32} {x : Nat} {bY qu : Nat → Int32} {rk : Nat → Nat} {en i v e w : Nat} {b : Int32} (h : cr_In T G ro fl wo x bY qu rk en i v e) (hw : w < 8) (hbw : (bY w).toInt < 0) (hb : 0 ≤ b.toInt) (hs : cr_Stp T G ro fl wo b v w) (hc : cr_Clo T G ro fl wo (upd bY w b) e v) :
    en < 8 ∧ cr_In T G ro fl wo x (upd bY w b) (upd qu en (nI w)) (fun z => if z = w then en else rk z) (en + 1) i v (e + 1) := by
  obtain ⟨h1, h2, h3, h4, h5, h6, h7⟩ := h
  obtain ⟨hen, hB⟩ := cr_Bfs_add h1 hw hbw h3 h4 hb hs
  have hvw : v ≠ w := by
    intro q
    subst q
    omega
  refine ⟨hen, hB, by omega, h3, by rw [pk_un hvw]; exact h4, (if_neg hvw).trans h5, fun u hu hbu hr k hk => ?_, fun k hk => ?_⟩
  · have hr : (if u = w then en else rk u) < i := hr
    have huw : u ≠ w := by
      intro q
      subst q
      rw [if_pos rfl] at hr
      omega
    rw [pk_un huw] at hbu
    rw [if_neg huw] at hr
    exact cr_Clo_grow (h6 u hu hbu hr k hk) hb
  · by_cases q : k = e
    · rw [q]; exact hc
    · exact cr_Clo_grow (h7 k (by omega)) hb
theorem cr_In_next {T G : Nat → Nat} {ro fl : Nat → Int32} {wo : Int32} {x : Nat} {bY qu : Nat → Int32} {rk : Nat → Nat} {en i v : Nat} (h : cr_In T G ro fl wo x bY qu rk en i v 25) : cr_Out T G ro fl wo x bY qu rk en (i + 1) := by
  obtain ⟨h1, h2, h3, h4, h5, h6, h7⟩ := h
  refine ⟨h1, h2, fun u hu hbu hr k hk => ?_⟩
  by_cases q : rk u < i
  · exact h6 u hu hbu q k hk
  · have e1 := (h1.2.2.2.1 u hu hbu).2
    have e2 := (h1.2.2.2.1 v h3 h4).2
    rw [show rk u = rk v by omega, e2] at e1
    have e3 : v = u := cr_eq (by omega) (by omega) e1
    rw [← e3]
    exact h7 k hk
theorem cr_Out_in {T G : Nat → Nat} {ro fl : Nat → Int32} {wo : Int32} {x : Nat} {bY qu : Nat → Int32} {rk : Nat → Nat} {en i : Nat} (h : cr_Out T G ro fl wo x bY qu rk en i) (hi : i < en) : ∃ v, v < 8 ∧ qu i = nI v ∧ cr_In T G ro fl wo x bY qu rk en i v 0 := by
  obtain ⟨h1, h2, h3⟩ := h
  obtain ⟨v, a1, a2, a3, a4⟩ := h1.2.2.2.2.1 i hi
  exact ⟨v, a1, a2, h1, hi, a1, a3, a4, h3, fun k hk => absurd hk (Nat.not_lt_zero k)⟩
theorem cr_Out_end {T G : Nat → Nat} {ro fl : Nat → Int32} {wo : Int32} {x y : Nat} {bY qu : Nat → Int32} {rk : Nat → Nat} {en i : Nat} {r : Int32} (h : cr_Out T G ro fl wo x bY qu rk en i) (hi : ¬ i < en) (hr : r = if 0 ≤ (bY y).toInt then 1 else 0) : cr_FW T G ro fl wo x y r bY := by
  obtain ⟨h1, h2, h3⟩ := h
  refine ⟨hr, h1.2.2.1, ⟨rk, h1.2.2.2.2.2⟩, fun u hu hbu k hk => h3 u hu hbu ?_ k hk⟩
  have := (h1.2.2.2.1 u hu hbu).1
  omega
end
section
/-! MODULE CirculationRange: findWay -/
set_option maxHeartbeats 4000000 in
set_option maxRecDepth 100000 in
/-- by is filled with -1 -/
theorem lpX0_findWay_3 {p : Program} {l : Launch} {env : Env} {s : State} {m : MethodId} {args : Array Value} {below : List Frame} {meth : Method} {c : Code} {Q : State → Prop} {D : va_G} {d : ClassId} {h : Nat → Nat} {A : Nat → Prop} (hx : p.tables.exec = Jvm.exec) (hb : c.code = cX0_findWay) (hml : c.maxLocals = 9) (hown : s.vm.findClass RX0 = some m.cls) (hts : ∀ w ∈ lw_all, w.before args s = true) (hA : ∀ q, s.heap.size ≤ q → A q) (hK : va_K D vwCl [(d, .int)] s) (cnt nd sn : Int32) (fr to lo hi ta he ro fl qu : Nat → Int32) (x y : Nat) (wo : Int32)
    (K : ∀ (bY : Nat → Int32) (H : Heap) (locs : List Loc) (ls : Array Slot), (∀ j, j < 8 → bY j = -1) → va_P D vwCl (xw d h cnt nd sn fr to lo hi ta he ro fl bY qu) H → va_D A (xw d h cnt nd sn fr to lo hi ta he ro fl bY qu) → va_S A s.heap H locs → lv_has ls 9 [(4, .int (nI 8)), (0, .ref (h 0)), (1, .int (nI x)), (2, .int (nI y)), (3, .int wo)] → W p l env ({ frames := 1, cells := 0, slots := 0, locals := 22 } : Room) s m args below meth c H locs 0 0 Q (F0 m 24 ls []))
    : ∀ (n : Nat) (v : Nat) (bY : Nat → Int32) (H : Heap) (locs : List Loc) (ls : Array Slot), (v ≤ 8) → (9 ≤ v + n) → (∀ j, j < v → bY j = -1) → va_P D vwCl (xw d h cnt nd sn fr to lo hi ta he ro fl bY qu) H → va_D A (xw d h cnt nd sn fr to lo hi ta he ro fl bY qu) → va_S A s.heap H locs → lv_has ls 9 [(4, .int (nI v)), (0, .ref (h 0)), (1, .int (nI x)), (2, .int (nI y)), (3, .int wo)] → W p l env ({ frames := 1, cells := 0, slots := 0, locals := 22 } : Room) s m args below meth c H locs 0 0 Q (F0 m 3 ls []) := by
  intro n
  induction n with
  | zero =>
    intro v bY H locs ls h1 h2 h3
    exfalso
    omega
  | succ n ih =>
    intro v bY H locs ls h1 h2 h3 hP hD hS hl
    refine lv_iload hx hb dX0_findWay_3 (lv_at hl 0 rfl) ?_
    refine lv_bipush (v := (nI 8)) hx hb dX0_findWay_5 (by decide) ?_
    refine lv_icmp_ge (tgt := 24) hx hb dX0_findWay_7 (by decide) (fun c1 => ?_) (fun c1 => ?_)
    · have q : v = 8 := by have := cr_le (by omega) (by omega) c1; omega
      subst q
      exact K bY H locs ls h3 hP hD hS hl
    · have q : v < 8 := cr_nle (by omega) (by omega) c1
      refine lv_aload_n hx hb dX0_findWay_10 rfl (lv_at hl 1 rfl) ?_
      refine va_get (D := D) (ci := 0) (v := .ref (h 9)) (C := RX0) (T := TX0) (N := 13) hx hb hts in_X0 hown hK hP 0 rfl rfl 11 (by decide) (hts _ q37) (fun _ h9 => h9) rfl dX0_findWay_11 ?_
      refine lv_iload hx hb dX0_findWay_14 (lv_at hl 0 rfl) ?_
      refine lv_iconst (v := (-1)) hx hb dX0_findWay_16 (by decide) ?_
      refine va_iast hx hb hK hP hD hS 9 0 rfl rfl (vp_in_nI (show v < 8 by omega) (by decide)) dX0_findWay_17 (fun H locs hP hD hS => ?_)
      rw [nI_clamp (show v < 2 ^ 31 by omega)] at hP hD
      have hP : va_P D vwCl (xw d h cnt nd sn fr to lo hi ta he ro fl (upd bY v (-1)) qu) H := hP
      have hD : va_D A (xw d h cnt nd sn fr to lo hi ta he ro fl (upd bY v (-1)) qu) := hD
      refine lv_iinc (v := (nI (v + 1))) (lv' := [(4, .int (nI (v + 1))), (0, .ref (h 0)), (1, .int (nI x)), (2, .int (nI y)), (3, .int wo)]) hx hb dX0_findWay_18 hl (k := 0) rfl (cr_inc v) (by decide) rfl (fun ls hl => ?_)
      refine lv_goto (tgt := 3) hx hb dX0_findWay_21 (by decide) ?_
      refine ih (v + 1) _ H locs ls q (by omega) (fun j hj => ?_) hP hD hS hl
      by_cases e : j = v
      · rw [e, pk_us]
      · rw [pk_un e]; exact h3 j (by omega)
set_option maxHeartbeats 4000000 in
set_option maxRecDepth 100000 in
/-- the edges at one vertex -/
theorem lpX0_findWay_71 {p : Program} {l : Launch} {env : Env} {s : State} {m : MethodId} {args : Array Value} {below : List Frame} {meth : Method} {c : Code} {Q : State → Prop} {D : va_G} {d : ClassId} {h : Nat → Nat} {A : Nat → Prop} (hx : p.tables.exec = Jvm.exec) (hb : c.code = cX0_findWay) (hml : c.maxLocals = 9) (hown : s.vm.findClass RX0 = some m.cls) (hts : ∀ w ∈ lw_all, w.before args s = true) (hA : ∀ q, s.heap.size ≤ q → A q) (hK : va_K D vwCl [(d, .int)] s) (cnt nd sn : Int32) (fr to lo hi ta he ro fl : Nat → Int32) (x y : Nat) (wo : Int32) (T G : Nat → Nat) (hE : cr_Ends T G ta he) (hV : cr_Val T G ro fl) (i v : Nat)
    (K : ∀ (bY qu : Nat → Int32) (rk : Nat → Nat) (en : Nat) (H : Heap) (locs : List Loc) (ls : Array Slot), (cr_In T G ro fl wo x bY qu rk en i v 25) → va_P D vwCl (xw d h cnt nd sn fr to lo hi ta he ro fl bY qu) H → va_D A (xw d h cnt nd sn fr to lo hi ta he ro fl bY qu) → va_S A s.heap H locs → lv_has ls 9 [(7, .int (nI 25)), (6, .int (nI v)), (5, .int (nI i)), (4, .int (nI en)), (0, .ref (h 0)), (1, .int (nI x)), (2, .int (nI y)), (3, .int wo)] → W p l env ({ frames := 1, cells := 0, slots := 0, locals := 22 } : Room) s m args below meth c H locs 0 0 Q (F0 m 163 ls []))
    : ∀ (n : Nat) (e : Nat) (bY qu : Nat → Int32) (rk : Nat → Nat) (en : Nat) (H : Heap) (locs : List Loc) (ls : Array Slot), (e ≤ 25) → (26 ≤ e + n) → (cr_In T G ro fl wo x bY qu rk en i v e) → va_P D vwCl (xw d h cnt nd sn fr to lo hi ta he ro fl bY qu) H → va_D A (xw d h cnt nd sn fr to lo hi ta he ro fl bY qu) → va_S A s.heap H locs → lv_has ls 9 [(7, .int (nI e)), (6, .int (nI v)), (5, .int (nI i)), (4, .int (nI en)), (0, .ref (h 0)), (1, .int (nI x)), (2, .int (nI y)), (3, .int wo)] → W p l env ({ frames := 1, cells := 0, slots := 0, locals := 22 } : Room) s m args below meth c H locs 0 0 Q (F0 m 71 ls []) := by
  intro n
  induction n with
  | zero =>
    intro e bY qu rk en H locs ls h1 h2 h3
    exfalso
    omega
  | succ n ih =>
    intro e bY qu rk en H locs ls h1 h2 h3 hP hD hS hl
    refine lv_iload hx hb dX0_findWay_71 (lv_at hl 0 rfl) ?_
    refine lv_bipush (v := (nI 25)) hx hb dX0_findWay_73 (by decide) ?_
    refine lv_icmp_ge (tgt := 163) hx hb dX0_findWay_75 (by decide) (fun c1 => ?_) (fun c1 => ?_)
    · have q : e = 25 := by have := cr_le (by omega) (by omega) c1; omega
      subst q
      exact K bY qu rk en H locs ls h3 hP hD hS hl
    · have q : e < 25 := cr_nle (by omega) (by omega) c1
      have hen := cr_Bfs_le h3.1
      have hv8 := h3.2.2.1
      obtain ⟨t1, t2, t3, t4⟩ := hE e q
      obtain ⟨f1, f2, f3, f4⟩ := hV e q
      refine lv_iload hx hb dX0_findWay_78 (lv_at hl 0 rfl) ?_
      refine lv_iload_n hx hb dX0_findWay_80 rfl (lv_at hl 7 rfl) ?_
      refine lv_icmp_ne (tgt := 88) hx hb dX0_findWay_81 (by decide) (fun c2 => ?_) (fun c2 => ?_)
      · refine lv_aload_n hx hb dX0_findWay_88 rfl (lv_at hl 4 rfl) ?_
        refine lv_iload hx hb dX0_findWay_89 (lv_at hl 0 rfl) ?_
        refine lv_iload hx hb dX0_findWay_91 (lv_at hl 1 rfl) ?_
        refine cr_selfi (As := [.int (nI e), .int (nI v)]) (rest := []) ⟨hx, hb, hml, hown, hts⟩ (metX0_across l D d h H.size cnt nd sn fr to lo hi ta he ro fl bY qu T G e v hE hV q hv8) (cwV 2 hts (lw_V q114 q116 qs6 q16 q117) rfl rfl rfl (by decide +kernel) ⟨Nat.le_of_ble_eq_true rfl, Nat.le_of_ble_eq_true rfl⟩) hK hP hD hS hA (ci := 0) rfl rfl rfl hl.1 rfl (Nat.le_of_ble_eq_true rfl) dX0_findWay_93 ⟨Nat.le_refl _, Nat.le_refl _⟩ (fun r u H locs hw hP hD hS => ?_)
        have hP : va_P D vwCl (xw d h cnt nd sn fr to lo hi ta he ro fl bY qu) H := hP
        have hD : va_D A (xw d h cnt nd sn fr to lo hi ta he ro fl bY qu) := hD
        rcases hw with ⟨e1, e2, e3⟩ | ⟨e1, e2, e3, e4⟩ | ⟨e1, e2, e3⟩
        · subst e1
          refine lv_istore (lv' := [(8, .int (nI (G e))), (7, .int (nI e)), (6, .int (nI v)), (5, .int (nI i)), (4, .int (nI en)), (0, .ref (h 0)), (1, .int (nI x)), (2, .int (nI y)), (3, .int wo)]) hx hb dX0_findWay_96 hl (by decide) rfl (fun ls hl => ?_)
          refine lv_iload hx hb dX0_findWay_98 (lv_at hl 0 rfl) ?_
          refine lv_if_lt (tgt := 157) hx hb dX0_findWay_100 (by decide) (fun c3 => ?_) (fun c3 => ?_)
          · exact absurd c3 (by rw [cr_lt0]; have := cr_nI_ge (G e) (by omega); omega)
          · refine lv_aload_n hx hb dX0_findWay_103 rfl (lv_at hl 5 rfl) ?_
            refine va_get (D := D) (ci := 0) (v := .ref (h 9)) (C := RX0) (T := TX0) (N := 13) hx hb hts in_X0 hown hK hP 0 rfl rfl 11 (by decide) (hts _ q37) (fun _ h9 => h9) rfl dX0_findWay_104 ?_
            refine lv_iload hx hb dX0_findWay_107 (lv_at hl 0 rfl) ?_
            refine va_iald hx hb hK hP 9 0 rfl rfl (vp_in_nI (show (G e) < 8 by omega) (by decide)) dX0_findWay_109 ?_
            refine lv_topi (fun y9 ey9 => ?_)
            obtain rfl : y9 = bY (G e) := ey9.trans (congrArg bY (nI_clamp (show (G e) < 2 ^ 31 by omega)))
            refine lv_if_ge (tgt := 157) hx hb dX0_findWay_110 (by decide) (fun c4 => ?_) (fun c4 => ?_)
            · have g0 : 0 ≤ (bY (G e)).toInt := by rw [cr_ge0] at c4; exact c4
              refine lv_iinc (v := (nI (e + 1))) (lv' := [(7, .int (nI (e + 1))), (8, .int (nI (G e))), (6, .int (nI v)), (5, .int (nI i)), (4, .int (nI en)), (0, .ref (h 0)), (1, .int (nI x)), (2, .int (nI y)), (3, .int wo)]) hx hb dX0_findWay_157 hl (k := 1) rfl (cr_inc e) (by decide) rfl (fun ls hl => ?_)
              refine lv_goto (tgt := 71) hx hb dX0_findWay_160 (by decide) ?_
              exact ih (e + 1) _ _ rk en H locs ls q (by omega) (cr_In_skip h3 (fun _ => ⟨fun _ _ => g0, fun a b => by have := f4 (e2.trans a.symm); omega⟩)) hP hD hS (lv_sub hl [0, 2, 3, 4, 5, 6, 7, 8] rfl)
            · have g0 : (bY (G e)).toInt < 0 := by rw [cr_ge0] at c4; omega
              obtain ⟨hen8, hI⟩ := cr_In_add (w := G e) (b := nI (2 * e)) h3 (by omega) g0 (cr_nI_ge _ (by omega)) ⟨e, q, c2, Or.inl ⟨rfl, e2, rfl, e3⟩⟩ (fun _ => ⟨fun _ _ => by rw [pk_us]; exact cr_nI_ge _ (by omega), fun a b => by have := f4 (e2.trans a.symm); omega⟩)
              refine lv_aload_n hx hb dX0_findWay_113 rfl (lv_at hl 5 rfl) ?_
              refine va_get (D := D) (ci := 0) (v := .ref (h 9)) (C := RX0) (T := TX0) (N := 13) hx hb hts in_X0 hown hK hP 0 rfl rfl 11 (by decide) (hts _ q37) (fun _ h9 => h9) rfl dX0_findWay_114 ?_
              refine lv_iload hx hb dX0_findWay_117 (lv_at hl 0 rfl) ?_
              refine lv_aload_n hx hb dX0_findWay_119 rfl (lv_at hl 5 rfl) ?_
              refine va_get (D := D) (ci := 0) (v := .ref (h 5)) (C := RX0) (T := TX0) (N := 13) hx hb hts in_X0 hown hK hP 0 rfl rfl 5 (by decide) (hts _ q31) (fun _ h9 => h9) rfl dX0_findWay_120 ?_
              refine lv_iload hx hb dX0_findWay_123 (lv_at hl 1 rfl) ?_
              refine va_iald hx hb hK hP 5 0 rfl rfl (vp_in_nI (show e < 25 by omega) (by decide)) dX0_findWay_125 ?_
              refine lv_topi (fun y9 ey9 => ?_)
              obtain rfl : y9 = ta e := ey9.trans (congrArg ta (nI_clamp (show e < 2 ^ 31 by omega)))
              refine lv_iload hx hb dX0_findWay_126 (lv_at hl 2 rfl) ?_
              refine lv_icmp_ne (tgt := 138) hx hb dX0_findWay_128 (by decide) (fun c5 => ?_) (fun c5 => ?_)
              · exact absurd (by rw [t1, e2]) c5
              · refine lv_iconst (v := (nI 2)) hx hb dX0_findWay_131 (by decide) ?_
                refine lv_iload hx hb dX0_findWay_132 (lv_at hl 1 rfl) ?_
                refine lv_imul hx hb dX0_findWay_134 ?_
                refine lv_topi (fun y9 ey9 => ?_)
                obtain rfl : y9 = nI (2 * e) := ey9.trans (pk_mul 2 e)
                refine lv_goto (tgt := 144) hx hb dX0_findWay_135 (by decide) ?_
                refine va_iast hx hb hK hP hD hS 9 0 rfl rfl (vp_in_nI (show (G e) < 8 by omega) (by decide)) dX0_findWay_144 (fun H locs hP hD hS => ?_)
                rw [nI_clamp (show (G e) < 2 ^ 31 by omega)] at hP hD
                have hP : va_P D vwCl (xw d h cnt nd sn fr to lo hi ta he ro fl (upd bY (G e) (nI (2 * e))) qu) H := hP
                have hD : va_D A (xw d h cnt nd sn fr to lo hi ta he ro fl (upd bY (G e) (nI (2 * e))) qu) := hD
                refine lv_aload_n hx hb dX0_findWay_145 rfl (lv_at hl 5 rfl) ?_
                refine va_get (D := D) (ci := 0) (v := .ref (h 10)) (C := RX0) (T := TX0) (N := 13) hx hb hts in_X0 hown hK hP 0 rfl rfl 12 (by decide) (hts _ q38) (fun _ h9 => h9) rfl dX0_findWay_146 ?_
                refine lv_iload hx hb dX0_findWay_149 (lv_at hl 4 rfl) ?_
                refine lv_iload hx hb dX0_findWay_151 (lv_at hl 0 rfl) ?_
                refine va_iast hx hb hK hP hD hS 10 0 rfl rfl (vp_in_nI (show en < 8 by omega) (by decide)) dX0_findWay_153 (fun H locs hP hD hS => ?_)
                rw [nI_clamp (show en < 2 ^ 31 by omega)] at hP hD
                have hP : va_P D vwCl (xw d h cnt nd sn fr to lo hi ta he ro fl (upd bY (G e) (nI (2 * e))) (upd qu en (nI (G e)))) H := hP
                have hD : va_D A (xw d h cnt nd sn fr to lo hi ta he ro fl (upd bY (G e) (nI (2 * e))) (upd qu en (nI (G e)))) := hD
                refine lv_iinc (v := (nI (en + 1))) (lv' := [(4, .int (nI (en + 1))), (8, .int (nI (G e))), (7, .int (nI e)), (6, .int (nI v)), (5, .int (nI i)), (0, .ref (h 0)), (1, .int (nI x)), (2, .int (nI y)), (3, .int wo)]) hx hb dX0_findWay_154 hl (k := 4) rfl (cr_inc en) (by decide) rfl (fun ls hl => ?_)
                refine lv_iinc (v := (nI (e + 1))) (lv' := [(7, .int (nI (e + 1))), (4, .int (nI (en + 1))), (8, .int (nI (G e))), (6, .int (nI v)), (5, .int (nI i)), (0, .ref (h 0)), (1, .int (nI x)), (2, .int (nI y)), (3, .int wo)]) hx hb dX0_findWay_157 hl (k := 2) rfl (cr_inc e) (by decide) rfl (fun ls hl => ?_)
                refine lv_goto (tgt := 71) hx hb dX0_findWay_160 (by decide) ?_
                exact ih (e + 1) _ _ _ (en + 1) H locs ls q (by omega) hI hP hD hS (lv_sub hl [0, 3, 4, 1, 5, 6, 7, 8] rfl)
        · subst e1
          refine lv_istore (lv' := [(8, .int (nI (T e))), (7, .int (nI e)), (6, .int (nI v)), (5, .int (nI i)), (4, .int (nI en)), (0, .ref (h 0)), (1, .int (nI x)), (2, .int (nI y)), (3, .int wo)]) hx hb dX0_findWay_96 hl (by decide) rfl (fun ls hl => ?_)
          refine lv_iload hx hb dX0_findWay_98 (lv_at hl 0 rfl) ?_
          refine lv_if_lt (tgt := 157) hx hb dX0_findWay_100 (by decide) (fun c3 => ?_) (fun c3 => ?_)
          · exact absurd c3 (by rw [cr_lt0]; have := cr_nI_ge (T e) (by omega); omega)
          · refine lv_aload_n hx hb dX0_findWay_103 rfl (lv_at hl 5 rfl) ?_
            refine va_get (D := D) (ci := 0) (v := .ref (h 9)) (C := RX0) (T := TX0) (N := 13) hx hb hts in_X0 hown hK hP 0 rfl rfl 11 (by decide) (hts _ q37) (fun _ h9 => h9) rfl dX0_findWay_104 ?_
            refine lv_iload hx hb dX0_findWay_107 (lv_at hl 0 rfl) ?_
            refine va_iald hx hb hK hP 9 0 rfl rfl (vp_in_nI (show (T e) < 8 by omega) (by decide)) dX0_findWay_109 ?_
            refine lv_topi (fun y9 ey9 => ?_)
            obtain rfl : y9 = bY (T e) := ey9.trans (congrArg bY (nI_clamp (show (T e) < 2 ^ 31 by omega)))
            refine lv_if_ge (tgt := 157) hx hb dX0_findWay_110 (by decide) (fun c4 => ?_) (fun c4 => ?_)
            · have g0 : 0 ≤ (bY (T e)).toInt := by rw [cr_ge0] at c4; exact c4
              refine lv_iinc (v := (nI (e + 1))) (lv' := [(7, .int (nI (e + 1))), (8, .int (nI (T e))), (6, .int (nI v)), (5, .int (nI i)), (4, .int (nI en)), (0, .ref (h 0)), (1, .int (nI x)), (2, .int (nI y)), (3, .int wo)]) hx hb dX0_findWay_157 hl (k := 1) rfl (cr_inc e) (by decide) rfl (fun ls hl => ?_)
              refine lv_goto (tgt := 71) hx hb dX0_findWay_160 (by decide) ?_
              exact ih (e + 1) _ _ rk en H locs ls q (by omega) (cr_In_skip h3 (fun _ => ⟨fun a b => absurd a e2, fun _ _ => g0⟩)) hP hD hS (lv_sub hl [0, 2, 3, 4, 5, 6, 7, 8] rfl)
            · have g0 : (bY (T e)).toInt < 0 := by rw [cr_ge0] at c4; omega
              obtain ⟨hen8, hI⟩ := cr_In_add (w := T e) (b := nI (2 * e + 1)) h3 (by omega) g0 (cr_nI_ge _ (by omega)) ⟨e, q, c2, Or.inr ⟨rfl, e3, rfl, e4⟩⟩ (fun _ => ⟨fun a b => absurd a e2, fun _ _ => by rw [pk_us]; exact cr_nI_ge _ (by omega)⟩)
              refine lv_aload_n hx hb dX0_findWay_113 rfl (lv_at hl 5 rfl) ?_
              refine va_get (D := D) (ci := 0) (v := .ref (h 9)) (C := RX0) (T := TX0) (N := 13) hx hb hts in_X0 hown hK hP 0 rfl rfl 11 (by decide) (hts _ q37) (fun _ h9 => h9) rfl dX0_findWay_114 ?_
              refine lv_iload hx hb dX0_findWay_117 (lv_at hl 0 rfl) ?_
              refine lv_aload_n hx hb dX0_findWay_119 rfl (lv_at hl 5 rfl) ?_
              refine va_get (D := D) (ci := 0) (v := .ref (h 5)) (C := RX0) (T := TX0) (N := 13) hx hb hts in_X0 hown hK hP 0 rfl rfl 5 (by decide) (hts _ q31) (fun _ h9 => h9) rfl dX0_findWay_120 ?_
              refine lv_iload hx hb dX0_findWay_123 (lv_at hl 1 rfl) ?_
              refine va_iald hx hb hK hP 5 0 rfl rfl (vp_in_nI (show e < 25 by omega) (by decide)) dX0_findWay_125 ?_
              refine lv_topi (fun y9 ey9 => ?_)
              obtain rfl : y9 = ta e := ey9.trans (congrArg ta (nI_clamp (show e < 2 ^ 31 by omega)))
              refine lv_iload hx hb dX0_findWay_126 (lv_at hl 2 rfl) ?_
              refine lv_icmp_ne (tgt := 138) hx hb dX0_findWay_128 (by decide) (fun c5 => ?_) (fun c5 => ?_)
              · refine lv_iconst (v := (nI 2)) hx hb dX0_findWay_138 (by decide) ?_
                refine lv_iload hx hb dX0_findWay_139 (lv_at hl 1 rfl) ?_
                refine lv_imul hx hb dX0_findWay_141 ?_
                refine lv_topi (fun y9 ey9 => ?_)
                obtain rfl : y9 = nI (2 * e) := ey9.trans (pk_mul 2 e)
                refine lv_iconst (v := (nI 1)) hx hb dX0_findWay_142 (by decide) ?_
                refine lv_iadd hx hb dX0_findWay_143 ?_
                refine lv_topi (fun y9 ey9 => ?_)
                obtain rfl : y9 = nI (2 * e + 1) := ey9.trans (nI_1 (2 * e))
                refine va_iast hx hb hK hP hD hS 9 0 rfl rfl (vp_in_nI (show (T e) < 8 by omega) (by decide)) dX0_findWay_144 (fun H locs hP hD hS => ?_)
                rw [nI_clamp (show (T e) < 2 ^ 31 by omega)] at hP hD
                have hP : va_P D vwCl (xw d h cnt nd sn fr to lo hi ta he ro fl (upd bY (T e) (nI (2 * e + 1))) qu) H := hP
                have hD : va_D A (xw d h cnt nd sn fr to lo hi ta he ro fl (upd bY (T e) (nI (2 * e + 1))) qu) := hD
                refine lv_aload_n hx hb dX0_findWay_145 rfl (lv_at hl 5 rfl) ?_
                refine va_get (D := D) (ci := 0) (v := .ref (h 10)) (C := RX0) (T := TX0) (N := 13) hx hb hts in_X0 hown hK hP 0 rfl rfl 12 (by decide) (hts _ q38) (fun _ h9 => h9) rfl dX0_findWay_146 ?_
                refine lv_iload hx hb dX0_findWay_149 (lv_at hl 4 rfl) ?_
                refine lv_iload hx hb dX0_findWay_151 (lv_at hl 0 rfl) ?_
                refine va_iast hx hb hK hP hD hS 10 0 rfl rfl (vp_in_nI (show en < 8 by omega) (by decide)) dX0_findWay_153 (fun H locs hP hD hS => ?_)
                rw [nI_clamp (show en < 2 ^ 31 by omega)] at hP hD
                have hP : va_P D vwCl (xw d h cnt nd sn fr to lo hi ta he ro fl (upd bY (T e) (nI (2 * e + 1))) (upd qu en (nI (T e)))) H := hP
                have hD : va_D A (xw d h cnt nd sn fr to lo hi ta he ro fl (upd bY (T e) (nI (2 * e + 1))) (upd qu en (nI (T e)))) := hD
                refine lv_iinc (v := (nI (en + 1))) (lv' := [(4, .int (nI (en + 1))), (8, .int (nI (T e))), (7, .int (nI e)), (6, .int (nI v)), (5, .int (nI i)), (0, .ref (h 0)), (1, .int (nI x)), (2, .int (nI y)), (3, .int wo)]) hx hb dX0_findWay_154 hl (k := 4) rfl (cr_inc en) (by decide) rfl (fun ls hl => ?_)
                refine lv_iinc (v := (nI (e + 1))) (lv' := [(7, .int (nI (e + 1))), (4, .int (nI (en + 1))), (8, .int (nI (T e))), (6, .int (nI v)), (5, .int (nI i)), (0, .ref (h 0)), (1, .int (nI x)), (2, .int (nI y)), (3, .int wo)]) hx hb dX0_findWay_157 hl (k := 2) rfl (cr_inc e) (by decide) rfl (fun ls hl => ?_)
                refine lv_goto (tgt := 71) hx hb dX0_findWay_160 (by decide) ?_
                exact ih (e + 1) _ _ _ (en + 1) H locs ls q (by omega) hI hP hD hS (lv_sub hl [0, 3, 4, 1, 5, 6, 7, 8] rfl)
              · exact absurd (cr_eq (by omega) (by omega) (t1.symm.trans c5)) e2
        · subst e1
          refine lv_istore (lv' := [(8, .int (-1)), (7, .int (nI e)), (6, .int (nI v)), (5, .int (nI i)), (4, .int (nI en)), (0, .ref (h 0)), (1, .int (nI x)), (2, .int (nI y)), (3, .int wo)]) hx hb dX0_findWay_96 hl (by decide) rfl (fun ls hl => ?_)
          refine lv_iload hx hb dX0_findWay_98 (lv_at hl 0 rfl) ?_
          refine lv_if_lt (tgt := 157) hx hb dX0_findWay_100 (by decide) (fun c3 => ?_) (fun c3 => ?_)
          · refine lv_iinc (v := (nI (e + 1))) (lv' := [(7, .int (nI (e + 1))), (8, .int (-1)), (6, .int (nI v)), (5, .int (nI i)), (4, .int (nI en)), (0, .ref (h 0)), (1, .int (nI x)), (2, .int (nI y)), (3, .int wo)]) hx hb dX0_findWay_157 hl (k := 1) rfl (cr_inc e) (by decide) rfl (fun ls hl => ?_)
            refine lv_goto (tgt := 71) hx hb dX0_findWay_160 (by decide) ?_
            exact ih (e + 1) _ _ rk en H locs ls q (by omega) (cr_In_skip h3 (fun _ => ⟨fun a b => absurd ⟨a, b⟩ e2, fun a b => absurd ⟨a, b⟩ e3⟩)) hP hD hS (lv_sub hl [0, 2, 3, 4, 5, 6, 7, 8] rfl)
          · exact absurd (by decide) c3
      · refine lv_iconst (v := (-1)) hx hb dX0_findWay_84 (by decide) ?_
        refine lv_goto (tgt := 96) hx hb dX0_findWay_85 (by decide) ?_
        refine lv_istore (lv' := [(8, .int (-1)), (7, .int (nI e)), (6, .int (nI v)), (5, .int (nI i)), (4, .int (nI en)), (0, .ref (h 0)), (1, .int (nI x)), (2, .int (nI y)), (3, .int wo)]) hx hb dX0_findWay_96 hl (by decide) rfl (fun ls hl => ?_)
        refine lv_iload hx hb dX0_findWay_98 (lv_at hl 0 rfl) ?_
        refine lv_if_lt (tgt := 157) hx hb dX0_findWay_100 (by decide) (fun c3 => ?_) (fun c3 => ?_)
        · refine lv_iinc (v := (nI (e + 1))) (lv' := [(7, .int (nI (e + 1))), (8, .int (-1)), (6, .int (nI v)), (5, .int (nI i)), (4, .int (nI en)), (0, .ref (h 0)), (1, .int (nI x)), (2, .int (nI y)), (3, .int wo)]) hx hb dX0_findWay_157 hl (k := 1) rfl (cr_inc e) (by decide) rfl (fun ls hl => ?_)
          refine lv_goto (tgt := 71) hx hb dX0_findWay_160 (by decide) ?_
          exact ih (e + 1) _ _ rk en H locs ls q (by omega) (cr_In_skip h3 (fun hn => absurd c2 hn)) hP hD hS (lv_sub hl [0, 2, 3, 4, 5, 6, 7, 8] rfl)
        · exact absurd (by decide) c3
set_option maxHeartbeats 4000000 in
set_option maxRecDepth 100000 in
/-- the vertices of the queue -/
theorem lpX0_findWay_45 {p : Program} {l : Launch} {env : Env} {s : State} {m : MethodId} {args : Array Value} {below : List Frame} {meth : Method} {c : Code} {Q : State → Prop} {D : va_G} {d : ClassId} {h : Nat → Nat} {A : Nat → Prop} (hx : p.tables.exec = Jvm.exec) (hb : c.code = cX0_findWay) (hml : c.maxLocals = 9) (hown : s.vm.findClass RX0 = some m.cls) (hts : ∀ w ∈ lw_all, w.before args s = true) (hA : ∀ q, s.heap.size ≤ q → A q) (hK : va_K D vwCl [(d, .int)] s) (cnt nd sn : Int32) (fr to lo hi ta he ro fl : Nat → Int32) (x y : Nat) (wo : Int32) (T G : Nat → Nat) (hE : cr_Ends T G ta he) (hV : cr_Val T G ro fl)
    (K : ∀ (bY qu : Nat → Int32) (rk : Nat → Nat) (en i : Nat) (H : Heap) (locs : List Loc) (ls : Array Slot), (cr_Out T G ro fl wo x bY qu rk en i) → (¬ i < en) → va_P D vwCl (xw d h cnt nd sn fr to lo hi ta he ro fl bY qu) H → va_D A (xw d h cnt nd sn fr to lo hi ta he ro fl bY qu) → va_S A s.heap H locs → lv_has ls 9 [(5, .int (nI i)), (4, .int (nI en)), (0, .ref (h 0)), (1, .int (nI x)), (2, .int (nI y)), (3, .int wo)] → W p l env ({ frames := 1, cells := 0, slots := 0, locals := 22 } : Room) s m args below meth c H locs 0 0 Q (F0 m 169 ls []))
    : ∀ (n : Nat) (i : Nat) (bY qu : Nat → Int32) (rk : Nat → Nat) (en : Nat) (H : Heap) (locs : List Loc) (ls : Array Slot), (i ≤ 8) → (9 ≤ i + n) → (cr_Out T G ro fl wo x bY qu rk en i) → va_P D vwCl (xw d h cnt nd sn fr to lo hi ta he ro fl bY qu) H → va_D A (xw d h cnt nd sn fr to lo hi ta he ro fl bY qu) → va_S A s.heap H locs → lv_has ls 9 [(5, .int (nI i)), (4, .int (nI en)), (0, .ref (h 0)), (1, .int (nI x)), (2, .int (nI y)), (3, .int wo)] → W p l env ({ frames := 1, cells := 0, slots := 0, locals := 22 } : Room) s m args below meth c H locs 0 0 Q (F0 m 45 ls []) := by
  intro n
  induction n with
  | zero =>
    intro i bY qu rk en H locs ls h1 h2 h3
    exfalso
    omega
  | succ n ih =>
    intro i bY qu rk en H locs ls h1 h2 h3 hP hD hS hl
    have hen := cr_Bfs_le h3.1
    refine lv_iload hx hb dX0_findWay_45 (lv_at hl 0 rfl) ?_
    refine lv_iload hx hb dX0_findWay_47 (lv_at hl 1 rfl) ?_
    refine lv_icmp_ge (tgt := 169) hx hb dX0_findWay_49 (by decide) (fun c1 => ?_) (fun c1 => ?_)
    · exact K bY qu rk en i H locs ls h3 (by have := cr_le (by omega) (by omega) c1; omega) hP hD hS hl
    · have q : i < en := cr_nle (by omega) (by omega) c1
      refine lv_iload hx hb dX0_findWay_52 (lv_at hl 0 rfl) ?_
      refine lv_bipush (v := (nI 8)) hx hb dX0_findWay_54 (by decide) ?_
      refine lv_icmp_ge (tgt := 169) hx hb dX0_findWay_56 (by decide) (fun c2 => ?_) (fun c2 => ?_)
      · exact absurd (cr_le (by omega) (by omega) c2) (by omega)
      · obtain ⟨v, hv8, eq, hI⟩ := cr_Out_in h3 q
        refine lv_aload_n hx hb dX0_findWay_59 rfl (lv_at hl 2 rfl) ?_
        refine va_get (D := D) (ci := 0) (v := .ref (h 10)) (C := RX0) (T := TX0) (N := 13) hx hb hts in_X0 hown hK hP 0 rfl rfl 12 (by decide) (hts _ q38) (fun _ h9 => h9) rfl dX0_findWay_60 ?_
        refine lv_iload hx hb dX0_findWay_63 (lv_at hl 0 rfl) ?_
        refine va_iald hx hb hK hP 10 0 rfl rfl (vp_in_nI (show i < 8 by omega) (by decide)) dX0_findWay_65 ?_
        refine lv_topi (fun y9 ey9 => ?_)
        obtain rfl : y9 = qu i := ey9.trans (congrArg qu (nI_clamp (show i < 2 ^ 31 by omega)))
        refine lv_topi (fun y9 ey9 => ?_)
        obtain rfl : y9 = nI v := ey9.trans (eq)
        refine lv_istore (lv' := [(6, .int (nI v)), (5, .int (nI i)), (4, .int (nI en)), (0, .ref (h 0)), (1, .int (nI x)), (2, .int (nI y)), (3, .int wo)]) hx hb dX0_findWay_66 hl (by decide) rfl (fun ls hl => ?_)
        refine lv_iconst (v := (nI 0)) hx hb dX0_findWay_68 (by decide) ?_
        refine lv_istore (lv' := [(7, .int (nI 0)), (6, .int (nI v)), (5, .int (nI i)), (4, .int (nI en)), (0, .ref (h 0)), (1, .int (nI x)), (2, .int (nI y)), (3, .int wo)]) hx hb dX0_findWay_69 hl (by decide) rfl (fun ls hl => ?_)
        refine lpX0_findWay_71 hx hb hml hown hts hA hK cnt nd sn fr to lo hi ta he ro fl x y wo T G hE hV i v (fun bY qu rk en H locs ls hI hP hD hS hl => ?_) 26 0 bY qu rk en H locs ls (by omega) (by omega) hI hP hD hS hl
        refine lv_iinc (v := (nI (i + 1))) (lv' := [(5, .int (nI (i + 1))), (7, .int (nI 25)), (6, .int (nI v)), (4, .int (nI en)), (0, .ref (h 0)), (1, .int (nI x)), (2, .int (nI y)), (3, .int wo)]) hx hb dX0_findWay_163 hl (k := 2) rfl (cr_inc i) (by decide) rfl (fun ls hl => ?_)
        refine lv_goto (tgt := 45) hx hb dX0_findWay_166 (by decide) ?_
        exact ih (i + 1) bY qu rk en H locs ls (by omega) (by omega) (cr_In_next hI) hP hD hS (lv_sub hl [0, 3, 4, 5, 6, 7] rfl)
set_option maxHeartbeats 4000000 in
set_option maxRecDepth 100000 in
/-- findWay(x, y, without) -/
theorem metX0_findWay (l : Launch) (D : va_G) (d : ClassId) (h : Nat → Nat) (sz : Nat) (cnt nd sn : Int32) (fr to lo hi ta he ro fl bY qu : Nat → Int32) (T G : Nat → Nat) (x y : Nat) (wo : Int32) (hE : cr_Ends T G ta he) (hV : cr_Val T G ro fl) (hx8 : x < 8) (hy8 : y < 8) : cr_Mi l D d (xw d h cnt nd sn fr to lo hi ta he ro fl bY qu) sz yX0_findWay cX0_findWay 9 (some .boolean) 1 22 [.ref (h 0), .int (nI x), .int (nI y), .int wo] (S := (Nat → Int32) × (Nat → Int32)) (fun r u => cr_FW T G ro fl wo x y r u.1) (fun u => xw d h cnt nd sn fr to lo hi ta he ro fl u.1 u.2) := by
  refine cr_begin (Qc := fun A => va_Qi _ (cr_Bh D d A _) A) (by decide) (Nat.le_of_ble_eq_true rfl) ?_
  intro p env s m below meth c A ls hx hb hr hml hts hown hlocks hA hP hK hD hS hl
  have hown : s.vm.findClass RX0 = some m.cls := hown
  have hl : lv_has ls 9 [(0, .ref (h 0)), (1, .int (nI x)), (2, .int (nI y)), (3, .int wo)] := hl
  refine lv_iconst (v := (nI 0)) hx hb dX0_findWay_0 (by decide) ?_
  refine lv_istore (lv' := [(4, .int (nI 0)), (0, .ref (h 0)), (1, .int (nI x)), (2, .int (nI y)), (3, .int wo)]) hx hb dX0_findWay_1 hl (by decide) rfl (fun ls hl => ?_)
  refine lpX0_findWay_3 hx hb hml hown hts hA hK cnt nd sn fr to lo hi ta he ro fl qu x y wo (fun bY H locs ls hm hP hD hS hl => ?_) 9 0 bY s.heap [] ls (by omega) (by omega) (fun j hj => absurd hj (Nat.not_lt_zero j)) hP hD hS hl
  refine lv_aload_n hx hb dX0_findWay_24 rfl (lv_at hl 1 rfl) ?_
  refine va_get (D := D) (ci := 0) (v := .ref (h 9)) (C := RX0) (T := TX0) (N := 13) hx hb hts in_X0 hown hK hP 0 rfl rfl 11 (by decide) (hts _ q37) (fun _ h9 => h9) rfl dX0_findWay_25 ?_
  refine lv_iload_n hx hb dX0_findWay_28 rfl (lv_at hl 2 rfl) ?_
  refine lv_bipush (v := (nI 50)) hx hb dX0_findWay_29 (by decide) ?_
  refine va_iast hx hb hK hP hD hS 9 0 rfl rfl (vp_in_nI (show x < 8 by omega) (by decide)) dX0_findWay_31 (fun H locs hP hD hS => ?_)
  rw [nI_clamp (show x < 2 ^ 31 by omega)] at hP hD
  have hP : va_P D vwCl (xw d h cnt nd sn fr to lo hi ta he ro fl (upd bY x (nI 50)) qu) H := hP
  have hD : va_D A (xw d h cnt nd sn fr to lo hi ta he ro fl (upd bY x (nI 50)) qu) := hD
  refine lv_aload_n hx hb dX0_findWay_32 rfl (lv_at hl 1 rfl) ?_
  refine va_get (D := D) (ci := 0) (v := .ref (h 10)) (C := RX0) (T := TX0) (N := 13) hx hb hts in_X0 hown hK hP 0 rfl rfl 12 (by decide) (hts _ q38) (fun _ h9 => h9) rfl dX0_findWay_33 ?_
  refine lv_iconst (v := (nI 0)) hx hb dX0_findWay_36 (by decide) ?_
  refine lv_iload_n hx hb dX0_findWay_37 rfl (lv_at hl 2 rfl) ?_
  refine va_iast hx hb hK hP hD hS 10 0 rfl rfl (vp_in_nI (show 0 < 8 by omega) (by decide)) dX0_findWay_38 (fun H locs hP hD hS => ?_)
  rw [nI_clamp (show 0 < 2 ^ 31 by omega)] at hP hD
  have hP : va_P D vwCl (xw d h cnt nd sn fr to lo hi ta he ro fl (upd bY x (nI 50)) (upd qu 0 (nI x))) H := hP
  have hD : va_D A (xw d h cnt nd sn fr to lo hi ta he ro fl (upd bY x (nI 50)) (upd qu 0 (nI x))) := hD
  refine lv_iconst (v := (nI 1)) hx hb dX0_findWay_39 (by decide) ?_
  refine lv_istore (lv' := [(4, .int (nI 1)), (0, .ref (h 0)), (1, .int (nI x)), (2, .int (nI y)), (3, .int wo)]) hx hb dX0_findWay_40 hl (by decide) rfl (fun ls hl => ?_)
  refine lv_iconst (v := (nI 0)) hx hb dX0_findWay_42 (by decide) ?_
  refine lv_istore (lv' := [(5, .int (nI 0)), (4, .int (nI 1)), (0, .ref (h 0)), (1, .int (nI x)), (2, .int (nI y)), (3, .int wo)]) hx hb dX0_findWay_43 hl (by decide) rfl (fun ls hl => ?_)
  refine lpX0_findWay_45 hx hb hml hown hts hA hK cnt nd sn fr to lo hi ta he ro fl x y wo T G hE hV (fun bY qu rk en i H locs ls hO hn hP hD hS hl => ?_) 9 0 _ _ (fun _ => 0) 1 H locs ls (by omega) (by omega) ⟨cr_Bfs_0 hx8 hm, by omega, fun u hu hb hr => absurd hr (Nat.not_lt_zero _)⟩ hP hD hS hl
  refine lv_aload_n hx hb dX0_findWay_169 rfl (lv_at hl 2 rfl) ?_
  refine va_get (D := D) (ci := 0) (v := .ref (h 9)) (C := RX0) (T := TX0) (N := 13) hx hb hts in_X0 hown hK hP 0 rfl rfl 11 (by decide) (hts _ q37) (fun _ h9 => h9) rfl dX0_findWay_170 ?_
  refine lv_iload_n hx hb dX0_findWay_173 rfl (lv_at hl 4 rfl) ?_
  refine va_iald hx hb hK hP 9 0 rfl rfl (vp_in_nI (show y < 8 by omega) (by decide)) dX0_findWay_174 ?_
  refine lv_topi (fun y9 ey9 => ?_)
  obtain rfl : y9 = bY y := ey9.trans (congrArg bY (nI_clamp (show y < 2 ^ 31 by omega)))
  refine lv_if_lt (tgt := 182) hx hb dX0_findWay_175 (by decide) (fun c1 => ?_) (fun c1 => ?_)
  · refine lv_iconst (v := (nI 0)) hx hb dX0_findWay_182 (by decide) ?_
    have hq : ¬ 0 ≤ (bY y).toInt := by rw [cr_lt0] at c1; omega
    exact cr_zret (bY, qu) hx hb hr hlocks rfl hK hP hD hS dX0_findWay_183 (cr_Out_end hO hn (show nI 0 = _ from (if_neg hq).symm))
  · refine lv_iconst (v := (nI 1)) hx hb dX0_findWay_178 (by decide) ?_
    refine lv_goto (tgt := 183) hx hb dX0_findWay_179 (by decide) ?_
    have hq : 0 ≤ (bY y).toInt := by rw [cr_lt0] at c1; omega
    exact cr_zret (bY, qu) hx hb hr hlocks rfl hK hP hD hS dX0_findWay_183 (cr_Out_end hO hn (show nI 1 = _ from (if_pos hq).symm))
end
section
/-! MODULE CirculationRange: push -/
theorem cr_and_e (e : Nat) (he : e < 25) : nI (2 * e) &&& nI 1 = nI 0 := by
  have h : nI (2 * e) &&& nI 1 = nI (2 * e % 2 ^ 1) := pk_andN (by omega) 1 (by decide)
  rw [h, show 2 * e % 2 ^ 1 = 0 by omega]
theorem cr_and_o (e : Nat) (he : e < 25) : nI (2 * e + 1) &&& nI 1 = nI 1 := by
  have h : nI (2 * e + 1) &&& nI 1 = nI ((2 * e + 1) % 2 ^ 1) := pk_andN (by omega) 1 (by decide)
  rw [h, show (2 * e + 1) % 2 ^ 1 = 1 by omega]
theorem cr_shr_e (e : Nat) (he : e < 25) : nI (2 * e) >>> (nI 1 &&& 31) = nI e := by rw [pk_shrN (by omega) _ 1 (by decide), show 2 * e / 2 ^ 1 = e by omega]
theorem cr_shr_o (e : Nat) (he : e < 25) : nI (2 * e + 1) >>> (nI 1 &&& 31) = nI e := by rw [pk_shrN (by omega) _ 1 (by decide), show (2 * e + 1) / 2 ^ 1 = e by omega]
theorem cr_1ne : ¬ nI 1 = 0 := by decide
set_option maxHeartbeats 4000000 in
set_option maxRecDepth 100000 in
/-- how much the way allows -/
theorem lpX0_push_9 {p : Program} {l : Launch} {env : Env} {s : State} {m : MethodId} {args : Array Value} {below : List Frame} {meth : Method} {c : Code} {Q : State → Prop} {D : va_G} {d : ClassId} {h : Nat → Nat} {A : Nat → Prop} (hx : p.tables.exec = Jvm.exec) (hb : c.code = cX0_push) (hml : c.maxLocals = 8) (hown : s.vm.findClass RX0 = some m.cls) (hts : ∀ w ∈ lw_all, w.before args s = true) (hA : ∀ q, s.heap.size ≤ q → A q) (hK : va_K D vwCl [(d, .int)] s) (cnt nd sn : Int32) (fr to lo hi ta he ro fl bY qu : Nat → Int32) (T G : Nat → Nat) (x y : Nat) (wo : Int32) (rk : Nat → Nat) (hx8 : x < 8) (hE : cr_Ends T G ta he) (hV : cr_Val T G ro fl) (hT : cr_Tree T G ro fl wo x bY rk)
    : ∀ (n : Nat) (i v : Nat) (amt : Int32) (H : Heap) (locs : List Loc) (ls : Array Slot), (i + n = 8) → (rk v < n) → (v < 8) → (0 ≤ (bY v).toInt) → (1 ≤ amt.toInt) → (∀ (a : Int32) (H : Heap) (locs : List Loc) (ls : Array Slot), 1 ≤ a.toInt → a.toInt ≤ amt.toInt → cr_okp T G ro fl wo x bY rk a.toInt n v → va_P D vwCl (xw d h cnt nd sn fr to lo hi ta he ro fl bY qu) H → va_D A (xw d h cnt nd sn fr to lo hi ta he ro fl bY qu) → va_S A s.heap H locs → lv_has ls 8 [(4, .int a), (0, .ref (h 0)), (1, .int (nI x)), (2, .int (nI y))] → W p l env ({ frames := 1, cells := 0, slots := 0, locals := 22 } : Room) s m args below meth c H locs 0 0 Q (F0 m 97 ls [])) → va_P D vwCl (xw d h cnt nd sn fr to lo hi ta he ro fl bY qu) H → va_D A (xw d h cnt nd sn fr to lo hi ta he ro fl bY qu) → va_S A s.heap H locs → lv_has ls 8 [(6, .int (nI i)), (5, .int (nI v)), (4, .int amt), (0, .ref (h 0)), (1, .int (nI x)), (2, .int (nI y))] → W p l env ({ frames := 1, cells := 0, slots := 0, locals := 22 } : Room) s m args below meth c H locs 0 0 Q (F0 m 9 ls []) := by
  intro n
  induction n with
  | zero =>
    intro i v amt H locs ls h1 h2 h3 h4 h5 K
    exfalso
    omega
  | succ n ih =>
    intro i v amt H locs ls h1 h2 h3 h4 h5 K hP hD hS hl
    refine lv_iload hx hb dX0_push_9 (lv_at hl 0 rfl) ?_
    refine lv_bipush (v := (nI 8)) hx hb dX0_push_11 (by decide) ?_
    refine lv_icmp_ge (tgt := 97) hx hb dX0_push_13 (by decide) (fun c1 => ?_) (fun c1 => ?_)
    · exact absurd (cr_le (by omega) (by omega) c1) (by omega)
    · refine lv_iload hx hb dX0_push_16 (lv_at hl 1 rfl) ?_
      refine lv_iload_n hx hb dX0_push_18 rfl (lv_at hl 4 rfl) ?_
      refine lv_icmp_eq (tgt := 97) hx hb dX0_push_19 (by decide) (fun c2 => ?_) (fun c2 => ?_)
      · have q : v = x := cr_eq (by omega) (by omega) c2
        exact K amt H locs ls h5 (Int.le_refl _) (Or.inl q) hP hD hS (lv_sub hl [2, 3, 4, 5] rfl)
      · have q : v ≠ x := cr_ne (by omega) (by omega) c2
        obtain ⟨-, z, hz8, hbz, hrk, e, hed, hwo, hs⟩ := hT v h3 q h4
        obtain ⟨t1, t2, t3, t4⟩ := hE e hed
        obtain ⟨f1, f2, f3, f4⟩ := hV e hed
        rcases hs with ⟨hbv, e1, e2, e3⟩ | ⟨hbv, e1, e2, e3⟩
        · refine lv_aload_n hx hb dX0_push_22 rfl (lv_at hl 3 rfl) ?_
          refine lv_aload_n hx hb dX0_push_23 rfl (lv_at hl 3 rfl) ?_
          refine va_get (D := D) (ci := 0) (v := .ref (h 9)) (C := RX0) (T := TX0) (N := 13) hx hb hts in_X0 hown hK hP 0 rfl rfl 11 (by decide) (hts _ q37) (fun _ h9 => h9) rfl dX0_push_24 ?_
          refine lv_iload hx hb dX0_push_27 (lv_at hl 1 rfl) ?_
          refine va_iald hx hb hK hP 9 0 rfl rfl (vp_in_nI (show v < 8 by omega) (by decide)) dX0_push_29 ?_
          refine lv_topi (fun y9 ey9 => ?_)
          obtain rfl : y9 = bY v := ey9.trans (congrArg bY (nI_clamp (show v < 2 ^ 31 by omega)))
          refine lv_topi (fun y9 ey9 => ?_)
          obtain rfl : y9 = nI (2 * e) := ey9.trans (hbv)
          refine cr_selfi (As := [.int (nI (2 * e))]) (rest := []) ⟨hx, hb, hml, hown, hts⟩ (metX0_roomOn l D d h H.size cnt nd sn fr to lo hi ta he ro fl bY qu (2 * e) e hed (by omega)) (cwV 1 hts (lw_V q122 q124 qs8 q16 q125) rfl rfl rfl (by decide +kernel) ⟨Nat.le_of_ble_eq_true rfl, Nat.le_of_ble_eq_true rfl⟩) hK hP hD hS hA (ci := 0) rfl rfl rfl hl.1 rfl (Nat.le_of_ble_eq_true rfl) dX0_push_30 ⟨Nat.le_refl _, Nat.le_refl _⟩ (fun r u H locs hw hP hD hS => ?_)
          have hP : va_P D vwCl (xw d h cnt nd sn fr to lo hi ta he ro fl bY qu) H := hP
          have hD : va_D A (xw d h cnt nd sn fr to lo hi ta he ro fl bY qu) := hD
          have hr2 : r.toInt = (ro e).toInt - (fl e).toInt := by rw [hw, if_pos (by omega), fb_subI (by omega) (by omega)]
          refine lv_istore (lv' := [(7, .int r), (6, .int (nI i)), (5, .int (nI v)), (4, .int amt), (0, .ref (h 0)), (1, .int (nI x)), (2, .int (nI y))]) hx hb dX0_push_33 hl (by decide) rfl (fun ls hl => ?_)
          refine lv_iload hx hb dX0_push_35 (lv_at hl 0 rfl) ?_
          refine lv_iload hx hb dX0_push_37 (lv_at hl 3 rfl) ?_
          refine lv_icmp_ge (tgt := 46) hx hb dX0_push_39 (by decide) (fun c3 => ?_) (fun c3 => ?_)
          · rw [Int32.le_iff_toInt_le] at c3
            refine lv_aload_n hx hb dX0_push_46 rfl (lv_at hl 4 rfl) ?_
            refine va_get (D := D) (ci := 0) (v := .ref (h 9)) (C := RX0) (T := TX0) (N := 13) hx hb hts in_X0 hown hK hP 0 rfl rfl 11 (by decide) (hts _ q37) (fun _ h9 => h9) rfl dX0_push_47 ?_
            refine lv_iload hx hb dX0_push_50 (lv_at hl 2 rfl) ?_
            refine va_iald hx hb hK hP 9 0 rfl rfl (vp_in_nI (show v < 8 by omega) (by decide)) dX0_push_52 ?_
            refine lv_topi (fun y9 ey9 => ?_)
            obtain rfl : y9 = bY v := ey9.trans (congrArg bY (nI_clamp (show v < 2 ^ 31 by omega)))
            refine lv_topi (fun y9 ey9 => ?_)
            obtain rfl : y9 = nI (2 * e) := ey9.trans (hbv)
            refine lv_iconst (v := (nI 1)) hx hb dX0_push_53 (by decide) ?_
            refine lv_iand hx hb dX0_push_54 ?_
            refine lv_topi (fun y9 ey9 => ?_)
            obtain rfl : y9 = (nI 0) := ey9.trans (cr_and_e e hed)
            refine lv_if_ne (tgt := 75) hx hb dX0_push_55 (by decide) (fun c4 => ?_) (fun c4 => ?_)
            · exact absurd rfl c4
            · refine lv_aload_n hx hb dX0_push_58 rfl (lv_at hl 4 rfl) ?_
              refine va_get (D := D) (ci := 0) (v := .ref (h 5)) (C := RX0) (T := TX0) (N := 13) hx hb hts in_X0 hown hK hP 0 rfl rfl 5 (by decide) (hts _ q31) (fun _ h9 => h9) rfl dX0_push_59 ?_
              refine lv_aload_n hx hb dX0_push_62 rfl (lv_at hl 4 rfl) ?_
              refine va_get (D := D) (ci := 0) (v := .ref (h 9)) (C := RX0) (T := TX0) (N := 13) hx hb hts in_X0 hown hK hP 0 rfl rfl 11 (by decide) (hts _ q37) (fun _ h9 => h9) rfl dX0_push_63 ?_
              refine lv_iload hx hb dX0_push_66 (lv_at hl 2 rfl) ?_
              refine va_iald hx hb hK hP 9 0 rfl rfl (vp_in_nI (show v < 8 by omega) (by decide)) dX0_push_68 ?_
              refine lv_topi (fun y9 ey9 => ?_)
              obtain rfl : y9 = bY v := ey9.trans (congrArg bY (nI_clamp (show v < 2 ^ 31 by omega)))
              refine lv_topi (fun y9 ey9 => ?_)
              obtain rfl : y9 = nI (2 * e) := ey9.trans (hbv)
              refine lv_iconst (v := (nI 1)) hx hb dX0_push_69 (by decide) ?_
              refine lv_ishr hx hb dX0_push_70 ?_
              refine lv_topi (fun y9 ey9 => ?_)
              obtain rfl : y9 = nI e := ey9.trans (cr_shr_e e hed)
              refine va_iald hx hb hK hP 5 0 rfl rfl (vp_in_nI (show e < 25 by omega) (by decide)) dX0_push_71 ?_
              refine lv_topi (fun y9 ey9 => ?_)
              obtain rfl : y9 = ta e := ey9.trans (congrArg ta (nI_clamp (show e < 2 ^ 31 by omega)))
              refine lv_topi (fun y9 ey9 => ?_)
              obtain rfl : y9 = nI z := ey9.trans (by rw [t1, e1])
              refine lv_goto (tgt := 89) hx hb dX0_push_72 (by decide) ?_
              refine lv_istore (lv' := [(5, .int (nI z)), (7, .int r), (6, .int (nI i)), (4, .int amt), (0, .ref (h 0)), (1, .int (nI x)), (2, .int (nI y))]) hx hb dX0_push_89 hl (by decide) rfl (fun ls hl => ?_)
              refine lv_iinc (v := (nI (i + 1))) (lv' := [(6, .int (nI (i + 1))), (5, .int (nI z)), (7, .int r), (4, .int amt), (0, .ref (h 0)), (1, .int (nI x)), (2, .int (nI y))]) hx hb dX0_push_91 hl (k := 2) rfl (cr_inc i) (by decide) rfl (fun ls hl => ?_)
              refine lv_goto (tgt := 9) hx hb dX0_push_94 (by decide) ?_
              exact ih (i + 1) z amt H locs ls (by omega) (by omega) hz8 hbz (by omega) (fun a H locs ls g1 g2 g3 hP hD hS hl => K a H locs ls g1 (by omega) (Or.inr ⟨q, z, e, hz8, hed, hwo, Or.inl ⟨hbv, e1, e2, by omega⟩, hrk, g3⟩) hP hD hS hl) hP hD hS (lv_sub hl [0, 1, 3, 4, 5, 6] rfl)
          · rw [Int32.le_iff_toInt_le] at c3
            refine lv_iload hx hb dX0_push_42 (lv_at hl 0 rfl) ?_
            refine lv_istore (lv' := [(4, .int r), (7, .int r), (6, .int (nI i)), (5, .int (nI v)), (0, .ref (h 0)), (1, .int (nI x)), (2, .int (nI y))]) hx hb dX0_push_44 hl (by decide) rfl (fun ls hl => ?_)
            refine lv_aload_n hx hb dX0_push_46 rfl (lv_at hl 4 rfl) ?_
            refine va_get (D := D) (ci := 0) (v := .ref (h 9)) (C := RX0) (T := TX0) (N := 13) hx hb hts in_X0 hown hK hP 0 rfl rfl 11 (by decide) (hts _ q37) (fun _ h9 => h9) rfl dX0_push_47 ?_
            refine lv_iload hx hb dX0_push_50 (lv_at hl 3 rfl) ?_
            refine va_iald hx hb hK hP 9 0 rfl rfl (vp_in_nI (show v < 8 by omega) (by decide)) dX0_push_52 ?_
            refine lv_topi (fun y9 ey9 => ?_)
            obtain rfl : y9 = bY v := ey9.trans (congrArg bY (nI_clamp (show v < 2 ^ 31 by omega)))
            refine lv_topi (fun y9 ey9 => ?_)
            obtain rfl : y9 = nI (2 * e) := ey9.trans (hbv)
            refine lv_iconst (v := (nI 1)) hx hb dX0_push_53 (by decide) ?_
            refine lv_iand hx hb dX0_push_54 ?_
            refine lv_topi (fun y9 ey9 => ?_)
            obtain rfl : y9 = (nI 0) := ey9.trans (cr_and_e e hed)
            refine lv_if_ne (tgt := 75) hx hb dX0_push_55 (by decide) (fun c4 => ?_) (fun c4 => ?_)
            · exact absurd rfl c4
            · refine lv_aload_n hx hb dX0_push_58 rfl (lv_at hl 4 rfl) ?_
              refine va_get (D := D) (ci := 0) (v := .ref (h 5)) (C := RX0) (T := TX0) (N := 13) hx hb hts in_X0 hown hK hP 0 rfl rfl 5 (by decide) (hts _ q31) (fun _ h9 => h9) rfl dX0_push_59 ?_
              refine lv_aload_n hx hb dX0_push_62 rfl (lv_at hl 4 rfl) ?_
              refine va_get (D := D) (ci := 0) (v := .ref (h 9)) (C := RX0) (T := TX0) (N := 13) hx hb hts in_X0 hown hK hP 0 rfl rfl 11 (by decide) (hts _ q37) (fun _ h9 => h9) rfl dX0_push_63 ?_
              refine lv_iload hx hb dX0_push_66 (lv_at hl 3 rfl) ?_
              refine va_iald hx hb hK hP 9 0 rfl rfl (vp_in_nI (show v < 8 by omega) (by decide)) dX0_push_68 ?_
              refine lv_topi (fun y9 ey9 => ?_)
              obtain rfl : y9 = bY v := ey9.trans (congrArg bY (nI_clamp (show v < 2 ^ 31 by omega)))
              refine lv_topi (fun y9 ey9 => ?_)
              obtain rfl : y9 = nI (2 * e) := ey9.trans (hbv)
              refine lv_iconst (v := (nI 1)) hx hb dX0_push_69 (by decide) ?_
              refine lv_ishr hx hb dX0_push_70 ?_
              refine lv_topi (fun y9 ey9 => ?_)
              obtain rfl : y9 = nI e := ey9.trans (cr_shr_e e hed)
              refine va_iald hx hb hK hP 5 0 rfl rfl (vp_in_nI (show e < 25 by omega) (by decide)) dX0_push_71 ?_
              refine lv_topi (fun y9 ey9 => ?_)
              obtain rfl : y9 = ta e := ey9.trans (congrArg ta (nI_clamp (show e < 2 ^ 31 by omega)))
              refine lv_topi (fun y9 ey9 => ?_)
              obtain rfl : y9 = nI z := ey9.trans (by rw [t1, e1])
              refine lv_goto (tgt := 89) hx hb dX0_push_72 (by decide) ?_
              refine lv_istore (lv' := [(5, .int (nI z)), (4, .int r), (7, .int r), (6, .int (nI i)), (0, .ref (h 0)), (1, .int (nI x)), (2, .int (nI y))]) hx hb dX0_push_89 hl (by decide) rfl (fun ls hl => ?_)
              refine lv_iinc (v := (nI (i + 1))) (lv' := [(6, .int (nI (i + 1))), (5, .int (nI z)), (4, .int r), (7, .int r), (0, .ref (h 0)), (1, .int (nI x)), (2, .int (nI y))]) hx hb dX0_push_91 hl (k := 3) rfl (cr_inc i) (by decide) rfl (fun ls hl => ?_)
              refine lv_goto (tgt := 9) hx hb dX0_push_94 (by decide) ?_
              exact ih (i + 1) z r H locs ls (by omega) (by omega) hz8 hbz (by omega) (fun a H locs ls g1 g2 g3 hP hD hS hl => K a H locs ls g1 (by omega) (Or.inr ⟨q, z, e, hz8, hed, hwo, Or.inl ⟨hbv, e1, e2, by omega⟩, hrk, g3⟩) hP hD hS hl) hP hD hS (lv_sub hl [0, 1, 2, 4, 5, 6] rfl)
        · refine lv_aload_n hx hb dX0_push_22 rfl (lv_at hl 3 rfl) ?_
          refine lv_aload_n hx hb dX0_push_23 rfl (lv_at hl 3 rfl) ?_
          refine va_get (D := D) (ci := 0) (v := .ref (h 9)) (C := RX0) (T := TX0) (N := 13) hx hb hts in_X0 hown hK hP 0 rfl rfl 11 (by decide) (hts _ q37) (fun _ h9 => h9) rfl dX0_push_24 ?_
          refine lv_iload hx hb dX0_push_27 (lv_at hl 1 rfl) ?_
          refine va_iald hx hb hK hP 9 0 rfl rfl (vp_in_nI (show v < 8 by omega) (by decide)) dX0_push_29 ?_
          refine lv_topi (fun y9 ey9 => ?_)
          obtain rfl : y9 = bY v := ey9.trans (congrArg bY (nI_clamp (show v < 2 ^ 31 by omega)))
          refine lv_topi (fun y9 ey9 => ?_)
          obtain rfl : y9 = nI (2 * e + 1) := ey9.trans (hbv)
          refine cr_selfi (As := [.int (nI (2 * e + 1))]) (rest := []) ⟨hx, hb, hml, hown, hts⟩ (metX0_roomOn l D d h H.size cnt nd sn fr to lo hi ta he ro fl bY qu (2 * e + 1) e hed (by omega)) (cwV 1 hts (lw_V q122 q124 qs8 q16 q125) rfl rfl rfl (by decide +kernel) ⟨Nat.le_of_ble_eq_true rfl, Nat.le_of_ble_eq_true rfl⟩) hK hP hD hS hA (ci := 0) rfl rfl rfl hl.1 rfl (Nat.le_of_ble_eq_true rfl) dX0_push_30 ⟨Nat.le_refl _, Nat.le_refl _⟩ (fun r u H locs hw hP hD hS => ?_)
          have hP : va_P D vwCl (xw d h cnt nd sn fr to lo hi ta he ro fl bY qu) H := hP
          have hD : va_D A (xw d h cnt nd sn fr to lo hi ta he ro fl bY qu) := hD
          have hr2 : r.toInt = (fl e).toInt := by rw [hw, if_neg (by omega)]
          refine lv_istore (lv' := [(7, .int r), (6, .int (nI i)), (5, .int (nI v)), (4, .int amt), (0, .ref (h 0)), (1, .int (nI x)), (2, .int (nI y))]) hx hb dX0_push_33 hl (by decide) rfl (fun ls hl => ?_)
          refine lv_iload hx hb dX0_push_35 (lv_at hl 0 rfl) ?_
          refine lv_iload hx hb dX0_push_37 (lv_at hl 3 rfl) ?_
          refine lv_icmp_ge (tgt := 46) hx hb dX0_push_39 (by decide) (fun c3 => ?_) (fun c3 => ?_)
          · rw [Int32.le_iff_toInt_le] at c3
            refine lv_aload_n hx hb dX0_push_46 rfl (lv_at hl 4 rfl) ?_
            refine va_get (D := D) (ci := 0) (v := .ref (h 9)) (C := RX0) (T := TX0) (N := 13) hx hb hts in_X0 hown hK hP 0 rfl rfl 11 (by decide) (hts _ q37) (fun _ h9 => h9) rfl dX0_push_47 ?_
            refine lv_iload hx hb dX0_push_50 (lv_at hl 2 rfl) ?_
            refine va_iald hx hb hK hP 9 0 rfl rfl (vp_in_nI (show v < 8 by omega) (by decide)) dX0_push_52 ?_
            refine lv_topi (fun y9 ey9 => ?_)
            obtain rfl : y9 = bY v := ey9.trans (congrArg bY (nI_clamp (show v < 2 ^ 31 by omega)))
            refine lv_topi (fun y9 ey9 => ?_)
            obtain rfl : y9 = nI (2 * e + 1) := ey9.trans (hbv)
            refine lv_iconst (v := (nI 1)) hx hb dX0_push_53 (by decide) ?_
            refine lv_iand hx hb dX0_push_54 ?_
            refine lv_topi (fun y9 ey9 => ?_)
            obtain rfl : y9 = (nI 1) := ey9.trans (cr_and_o e hed)
            refine lv_if_ne (tgt := 75) hx hb dX0_push_55 (by decide) (fun c4 => ?_) (fun c4 => ?_)
            · refine lv_aload_n hx hb dX0_push_75 rfl (lv_at hl 4 rfl) ?_
              refine va_get (D := D) (ci := 0) (v := .ref (h 6)) (C := RX0) (T := TX0) (N := 13) hx hb hts in_X0 hown hK hP 0 rfl rfl 6 (by decide) (hts _ q32) (fun _ h9 => h9) rfl dX0_push_76 ?_
              refine lv_aload_n hx hb dX0_push_79 rfl (lv_at hl 4 rfl) ?_
              refine va_get (D := D) (ci := 0) (v := .ref (h 9)) (C := RX0) (T := TX0) (N := 13) hx hb hts in_X0 hown hK hP 0 rfl rfl 11 (by decide) (hts _ q37) (fun _ h9 => h9) rfl dX0_push_80 ?_
              refine lv_iload hx hb dX0_push_83 (lv_at hl 2 rfl) ?_
              refine va_iald hx hb hK hP 9 0 rfl rfl (vp_in_nI (show v < 8 by omega) (by decide)) dX0_push_85 ?_
              refine lv_topi (fun y9 ey9 => ?_)
              obtain rfl : y9 = bY v := ey9.trans (congrArg bY (nI_clamp (show v < 2 ^ 31 by omega)))
              refine lv_topi (fun y9 ey9 => ?_)
              obtain rfl : y9 = nI (2 * e + 1) := ey9.trans (hbv)
              refine lv_iconst (v := (nI 1)) hx hb dX0_push_86 (by decide) ?_
              refine lv_ishr hx hb dX0_push_87 ?_
              refine lv_topi (fun y9 ey9 => ?_)
              obtain rfl : y9 = nI e := ey9.trans (cr_shr_o e hed)
              refine va_iald hx hb hK hP 6 0 rfl rfl (vp_in_nI (show e < 25 by omega) (by decide)) dX0_push_88 ?_
              refine lv_topi (fun y9 ey9 => ?_)
              obtain rfl : y9 = he e := ey9.trans (congrArg he (nI_clamp (show e < 2 ^ 31 by omega)))
              refine lv_topi (fun y9 ey9 => ?_)
              obtain rfl : y9 = nI z := ey9.trans (by rw [t2, e1])
              refine lv_istore (lv' := [(5, .int (nI z)), (7, .int r), (6, .int (nI i)), (4, .int amt), (0, .ref (h 0)), (1, .int (nI x)), (2, .int (nI y))]) hx hb dX0_push_89 hl (by decide) rfl (fun ls hl => ?_)
              refine lv_iinc (v := (nI (i + 1))) (lv' := [(6, .int (nI (i + 1))), (5, .int (nI z)), (7, .int r), (4, .int amt), (0, .ref (h 0)), (1, .int (nI x)), (2, .int (nI y))]) hx hb dX0_push_91 hl (k := 2) rfl (cr_inc i) (by decide) rfl (fun ls hl => ?_)
              refine lv_goto (tgt := 9) hx hb dX0_push_94 (by decide) ?_
              exact ih (i + 1) z amt H locs ls (by omega) (by omega) hz8 hbz (by omega) (fun a H locs ls g1 g2 g3 hP hD hS hl => K a H locs ls g1 (by omega) (Or.inr ⟨q, z, e, hz8, hed, hwo, Or.inr ⟨hbv, e1, e2, by omega⟩, hrk, g3⟩) hP hD hS hl) hP hD hS (lv_sub hl [0, 1, 3, 4, 5, 6] rfl)
            · exact absurd c4 cr_1ne
          · rw [Int32.le_iff_toInt_le] at c3
            refine lv_iload hx hb dX0_push_42 (lv_at hl 0 rfl) ?_
            refine lv_istore (lv' := [(4, .int r), (7, .int r), (6, .int (nI i)), (5, .int (nI v)), (0, .ref (h 0)), (1, .int (nI x)), (2, .int (nI y))]) hx hb dX0_push_44 hl (by decide) rfl (fun ls hl => ?_)
            refine lv_aload_n hx hb dX0_push_46 rfl (lv_at hl 4 rfl) ?_
            refine va_get (D := D) (ci := 0) (v := .ref (h 9)) (C := RX0) (T := TX0) (N := 13) hx hb hts in_X0 hown hK hP 0 rfl rfl 11 (by decide) (hts _ q37) (fun _ h9 => h9) rfl dX0_push_47 ?_
            refine lv_iload hx hb dX0_push_50 (lv_at hl 3 rfl) ?_
            refine va_iald hx hb hK hP 9 0 rfl rfl (vp_in_nI (show v < 8 by omega) (by decide)) dX0_push_52 ?_
            refine lv_topi (fun y9 ey9 => ?_)
            obtain rfl : y9 = bY v := ey9.trans (congrArg bY (nI_clamp (show v < 2 ^ 31 by omega)))
            refine lv_topi (fun y9 ey9 => ?_)
            obtain rfl : y9 = nI (2 * e + 1) := ey9.trans (hbv)
            refine lv_iconst (v := (nI 1)) hx hb dX0_push_53 (by decide) ?_
            refine lv_iand hx hb dX0_push_54 ?_
            refine lv_topi (fun y9 ey9 => ?_)
            obtain rfl : y9 = (nI 1) := ey9.trans (cr_and_o e hed)
            refine lv_if_ne (tgt := 75) hx hb dX0_push_55 (by decide) (fun c4 => ?_) (fun c4 => ?_)
            · refine lv_aload_n hx hb dX0_push_75 rfl (lv_at hl 4 rfl) ?_
              refine va_get (D := D) (ci := 0) (v := .ref (h 6)) (C := RX0) (T := TX0) (N := 13) hx hb hts in_X0 hown hK hP 0 rfl rfl 6 (by decide) (hts _ q32) (fun _ h9 => h9) rfl dX0_push_76 ?_
              refine lv_aload_n hx hb dX0_push_79 rfl (lv_at hl 4 rfl) ?_
              refine va_get (D := D) (ci := 0) (v := .ref (h 9)) (C := RX0) (T := TX0) (N := 13) hx hb hts in_X0 hown hK hP 0 rfl rfl 11 (by decide) (hts _ q37) (fun _ h9 => h9) rfl dX0_push_80 ?_
              refine lv_iload hx hb dX0_push_83 (lv_at hl 3 rfl) ?_
              refine va_iald hx hb hK hP 9 0 rfl rfl (vp_in_nI (show v < 8 by omega) (by decide)) dX0_push_85 ?_
              refine lv_topi (fun y9 ey9 => ?_)
              obtain rfl : y9 = bY v := ey9.trans (congrArg bY (nI_clamp (show v < 2 ^ 31 by omega)))
              refine lv_topi (fun y9 ey9 => ?_)
              obtain rfl : y9 = nI (2 * e + 1) := ey9.trans (hbv)
              refine lv_iconst (v := (nI 1)) hx hb dX0_push_86 (by decide) ?_
              refine lv_ishr hx hb dX0_push_87 ?_
              refine lv_topi (fun y9 ey9 => ?_)
              obtain rfl : y9 = nI e := ey9.trans (cr_shr_o e hed)
              refine va_iald hx hb hK hP 6 0 rfl rfl (vp_in_nI (show e < 25 by omega) (by decide)) dX0_push_88 ?_
              refine lv_topi (fun y9 ey9 => ?_)
              obtain rfl : y9 = he e := ey9.trans (congrArg he (nI_clamp (show e < 2 ^ 31 by omega)))
              refine lv_topi (fun y9 ey9 => ?_)
              obtain rfl : y9 = nI z := ey9.trans (by rw [t2, e1])
              refine lv_istore (lv' := [(5, .int (nI z)), (4, .int r), (7, .int r), (6, .int (nI i)), (0, .ref (h 0)), (1, .int (nI x)), (2, .int (nI y))]) hx hb dX0_push_89 hl (by decide) rfl (fun ls hl => ?_)
              refine lv_iinc (v := (nI (i + 1))) (lv' := [(6, .int (nI (i + 1))), (5, .int (nI z)), (4, .int r), (7, .int r), (0, .ref (h 0)), (1, .int (nI x)), (2, .int (nI y))]) hx hb dX0_push_91 hl (k := 3) rfl (cr_inc i) (by decide) rfl (fun ls hl => ?_)
              refine lv_goto (tgt := 9) hx hb dX0_push_94 (by decide) ?_
              exact ih (i + 1) z r H locs ls (by omega) (by omega) hz8 hbz (by omega) (fun a H locs ls g1 g2 g3 hP hD hS hl => K a H locs ls g1 (by omega) (Or.inr ⟨q, z, e, hz8, hed, hwo, Or.inr ⟨hbv, e1, e2, by omega⟩, hrk, g3⟩) hP hD hS hl) hP hD hS (lv_sub hl [0, 1, 2, 4, 5, 6] rfl)
            · exact absurd c4 cr_1ne
set_option maxHeartbeats 4000000 in
set_option maxRecDepth 100000 in
/-- the way is changed -/
theorem lpX0_push_103 {p : Program} {l : Launch} {env : Env} {s : State} {m : MethodId} {args : Array Value} {below : List Frame} {meth : Method} {c : Code} {Q : State → Prop} {D : va_G} {d : ClassId} {h : Nat → Nat} {A : Nat → Prop} (hx : p.tables.exec = Jvm.exec) (hb : c.code = cX0_push) (hml : c.maxLocals = 8) (hown : s.vm.findClass RX0 = some m.cls) (hts : ∀ w ∈ lw_all, w.before args s = true) (hA : ∀ q, s.heap.size ≤ q → A q) (hK : va_K D vwCl [(d, .int)] s) (cnt nd sn : Int32) (fr to lo hi ta he ro fl bY qu : Nat → Int32) (T G : Nat → Nat) (x y : Nat) (wo : Int32) (rk : Nat → Nat) (hx8 : x < 8) (hE : cr_Ends T G ta he) (amt : Int32) (ha : 1 ≤ amt.toInt) (ha2 : amt.toInt ≤ 240)
    (K : ∀ (f : Nat → Int32) (H : Heap) (locs : List Loc) (ls : Array Slot), (cr_Psh T G ro fl wo rk amt.toInt y x f) → va_P D vwCl (xw d h cnt nd sn fr to lo hi ta he ro f bY qu) H → va_D A (xw d h cnt nd sn fr to lo hi ta he ro f bY qu) → va_S A s.heap H locs → lv_has ls 8 [(4, .int amt), (0, .ref (h 0)), (1, .int (nI x)), (2, .int (nI y))] → W p l env ({ frames := 1, cells := 0, slots := 0, locals := 22 } : Room) s m args below meth c H locs 0 0 Q (F0 m 188 ls []))
    : ∀ (n : Nat) (i v : Nat) (f : Nat → Int32) (H : Heap) (locs : List Loc) (ls : Array Slot), (i + n = 8) → (rk v < n) → (v < 8) → (cr_okp T G ro fl wo x bY rk amt.toInt n v) → (cr_Psh T G ro fl wo rk amt.toInt y v f) → va_P D vwCl (xw d h cnt nd sn fr to lo hi ta he ro f bY qu) H → va_D A (xw d h cnt nd sn fr to lo hi ta he ro f bY qu) → va_S A s.heap H locs → lv_has ls 8 [(6, .int (nI i)), (5, .int (nI v)), (4, .int amt), (0, .ref (h 0)), (1, .int (nI x)), (2, .int (nI y))] → W p l env ({ frames := 1, cells := 0, slots := 0, locals := 22 } : Room) s m args below meth c H locs 0 0 Q (F0 m 103 ls []) := by
  intro n
  induction n with
  | zero =>
    intro i v f H locs ls h1 h2 h3 h4 h5
    exfalso
    omega
  | succ n ih =>
    intro i v f H locs ls h1 h2 h3 h4 h5 hP hD hS hl
    refine lv_iload hx hb dX0_push_103 (lv_at hl 0 rfl) ?_
    refine lv_bipush (v := (nI 8)) hx hb dX0_push_105 (by decide) ?_
    refine lv_icmp_ge (tgt := 188) hx hb dX0_push_107 (by decide) (fun c1 => ?_) (fun c1 => ?_)
    · exact absurd (cr_le (by omega) (by omega) c1) (by omega)
    · refine lv_iload hx hb dX0_push_110 (lv_at hl 1 rfl) ?_
      refine lv_iload_n hx hb dX0_push_112 rfl (lv_at hl 4 rfl) ?_
      refine lv_icmp_eq (tgt := 188) hx hb dX0_push_113 (by decide) (fun c2 => ?_) (fun c2 => ?_)
      · have q : v = x := cr_eq (by omega) (by omega) c2
        rw [q] at h5
        exact K f H locs ls h5 hP hD hS (lv_sub hl [2, 3, 4, 5] rfl)
      · have q : v ≠ x := cr_ne (by omega) (by omega) c2
        rcases h4 with h4 | ⟨-, z, e, hz8, hed, hwo, hs, hrk, hok⟩
        · exact absurd h4 q
        obtain ⟨t1, t2, t3, t4⟩ := hE e hed
        obtain ⟨f1, f2, f3, f4⟩ := h5.1 e hed
        rcases hs with ⟨hbv, e1, e2, e3⟩ | ⟨hbv, e1, e2, e3⟩
        · refine lv_aload_n hx hb dX0_push_116 rfl (lv_at hl 3 rfl) ?_
          refine va_get (D := D) (ci := 0) (v := .ref (h 9)) (C := RX0) (T := TX0) (N := 13) hx hb hts in_X0 hown hK hP 0 rfl rfl 11 (by decide) (hts _ q37) (fun _ h9 => h9) rfl dX0_push_117 ?_
          refine lv_iload hx hb dX0_push_120 (lv_at hl 1 rfl) ?_
          refine va_iald hx hb hK hP 9 0 rfl rfl (vp_in_nI (show v < 8 by omega) (by decide)) dX0_push_122 ?_
          refine lv_topi (fun y9 ey9 => ?_)
          obtain rfl : y9 = bY v := ey9.trans (congrArg bY (nI_clamp (show v < 2 ^ 31 by omega)))
          refine lv_topi (fun y9 ey9 => ?_)
          obtain rfl : y9 = nI (2 * e) := ey9.trans (hbv)
          refine lv_istore (lv' := [(7, .int (nI (2 * e))), (6, .int (nI i)), (5, .int (nI v)), (4, .int amt), (0, .ref (h 0)), (1, .int (nI x)), (2, .int (nI y))]) hx hb dX0_push_123 hl (by decide) rfl (fun ls hl => ?_)
          refine lv_aload_n hx hb dX0_push_125 rfl (lv_at hl 4 rfl) ?_
          refine va_get (D := D) (ci := 0) (v := .ref (h 8)) (C := RX0) (T := TX0) (N := 13) hx hb hts in_X0 hown hK hP 0 rfl rfl 8 (by decide) (hts _ q34) (fun _ h9 => h9) rfl dX0_push_126 ?_
          refine lv_iload hx hb dX0_push_129 (lv_at hl 0 rfl) ?_
          refine lv_iconst (v := (nI 1)) hx hb dX0_push_131 (by decide) ?_
          refine lv_ishr hx hb dX0_push_132 ?_
          refine lv_topi (fun y9 ey9 => ?_)
          obtain rfl : y9 = nI e := ey9.trans (cr_shr_e e hed)
          refine lv_dup2_11 hx hb dX0_push_133 rfl rfl ?_
          refine va_iald hx hb hK hP 8 0 rfl rfl (vp_in_nI (show e < 25 by omega) (by decide)) dX0_push_134 ?_
          refine lv_topi (fun y9 ey9 => ?_)
          obtain rfl : y9 = f e := ey9.trans (congrArg f (nI_clamp (show e < 2 ^ 31 by omega)))
          refine lv_iload hx hb dX0_push_135 (lv_at hl 0 rfl) ?_
          refine lv_iconst (v := (nI 1)) hx hb dX0_push_137 (by decide) ?_
          refine lv_iand hx hb dX0_push_138 ?_
          refine lv_topi (fun y9 ey9 => ?_)
          obtain rfl : y9 = (nI 0) := ey9.trans (cr_and_e e hed)
          refine lv_if_ne (tgt := 147) hx hb dX0_push_139 (by decide) (fun c3 => ?_) (fun c3 => ?_)
          · exact absurd rfl c3
          · refine lv_iload hx hb dX0_push_142 (lv_at hl 3 rfl) ?_
            refine lv_goto (tgt := 150) hx hb dX0_push_144 (by decide) ?_
            refine lv_iadd hx hb dX0_push_150 ?_
            refine lv_topi (fun zz ezz => ?_)
            have hz2 : zz.toInt = (f e).toInt + amt.toInt := by rw [ezz, fb_addI (by omega) (by omega)]
            refine va_iast hx hb hK hP hD hS 8 0 rfl rfl (vp_in_nI (show e < 25 by omega) (by decide)) dX0_push_151 (fun H locs hP hD hS => ?_)
            rw [nI_clamp (show e < 2 ^ 31 by omega)] at hP hD
            have hP : va_P D vwCl (xw d h cnt nd sn fr to lo hi ta he ro (upd f e zz) bY qu) H := hP
            have hD : va_D A (xw d h cnt nd sn fr to lo hi ta he ro (upd f e zz) bY qu) := hD
            refine lv_iload hx hb dX0_push_152 (lv_at hl 0 rfl) ?_
            refine lv_iconst (v := (nI 1)) hx hb dX0_push_154 (by decide) ?_
            refine lv_iand hx hb dX0_push_155 ?_
            refine lv_topi (fun y9 ey9 => ?_)
            obtain rfl : y9 = (nI 0) := ey9.trans (cr_and_e e hed)
            refine lv_if_ne (tgt := 171) hx hb dX0_push_156 (by decide) (fun c4 => ?_) (fun c4 => ?_)
            · exact absurd rfl c4
            · refine lv_aload_n hx hb dX0_push_159 rfl (lv_at hl 4 rfl) ?_
              refine va_get (D := D) (ci := 0) (v := .ref (h 5)) (C := RX0) (T := TX0) (N := 13) hx hb hts in_X0 hown hK hP 0 rfl rfl 5 (by decide) (hts _ q31) (fun _ h9 => h9) rfl dX0_push_160 ?_
              refine lv_iload hx hb dX0_push_163 (lv_at hl 0 rfl) ?_
              refine lv_iconst (v := (nI 1)) hx hb dX0_push_165 (by decide) ?_
              refine lv_ishr hx hb dX0_push_166 ?_
              refine lv_topi (fun y9 ey9 => ?_)
              obtain rfl : y9 = nI e := ey9.trans (cr_shr_e e hed)
              refine va_iald hx hb hK hP 5 0 rfl rfl (vp_in_nI (show e < 25 by omega) (by decide)) dX0_push_167 ?_
              refine lv_topi (fun y9 ey9 => ?_)
              obtain rfl : y9 = ta e := ey9.trans (congrArg ta (nI_clamp (show e < 2 ^ 31 by omega)))
              refine lv_topi (fun y9 ey9 => ?_)
              obtain rfl : y9 = nI z := ey9.trans (by rw [t1, e1])
              refine lv_goto (tgt := 180) hx hb dX0_push_168 (by decide) ?_
              refine lv_istore (lv' := [(5, .int (nI z)), (7, .int (nI (2 * e))), (6, .int (nI i)), (4, .int amt), (0, .ref (h 0)), (1, .int (nI x)), (2, .int (nI y))]) hx hb dX0_push_180 hl (by decide) rfl (fun ls hl => ?_)
              refine lv_iinc (v := (nI (i + 1))) (lv' := [(6, .int (nI (i + 1))), (5, .int (nI z)), (7, .int (nI (2 * e))), (4, .int amt), (0, .ref (h 0)), (1, .int (nI x)), (2, .int (nI y))]) hx hb dX0_push_182 hl (k := 2) rfl (cr_inc i) (by decide) rfl (fun ls hl => ?_)
              refine lv_goto (tgt := 103) hx hb dX0_push_185 (by decide) ?_
              exact ih (i + 1) z _ H locs ls (by omega) (by omega) hz8 hok (cr_Psh_step h5 hed hwo hrk (Or.inl ⟨e1, e2, hz2, by omega, e3⟩)) hP hD hS (lv_sub hl [0, 1, 3, 4, 5, 6] rfl)
        · refine lv_aload_n hx hb dX0_push_116 rfl (lv_at hl 3 rfl) ?_
          refine va_get (D := D) (ci := 0) (v := .ref (h 9)) (C := RX0) (T := TX0) (N := 13) hx hb hts in_X0 hown hK hP 0 rfl rfl 11 (by decide) (hts _ q37) (fun _ h9 => h9) rfl dX0_push_117 ?_
          refine lv_iload hx hb dX0_push_120 (lv_at hl 1 rfl) ?_
          refine va_iald hx hb hK hP 9 0 rfl rfl (vp_in_nI (show v < 8 by omega) (by decide)) dX0_push_122 ?_
          refine lv_topi (fun y9 ey9 => ?_)
          obtain rfl : y9 = bY v := ey9.trans (congrArg bY (nI_clamp (show v < 2 ^ 31 by omega)))
          refine lv_topi (fun y9 ey9 => ?_)
          obtain rfl : y9 = nI (2 * e + 1) := ey9.trans (hbv)
          refine lv_istore (lv' := [(7, .int (nI (2 * e + 1))), (6, .int (nI i)), (5, .int (nI v)), (4, .int amt), (0, .ref (h 0)), (1, .int (nI x)), (2, .int (nI y))]) hx hb dX0_push_123 hl (by decide) rfl (fun ls hl => ?_)
          refine lv_aload_n hx hb dX0_push_125 rfl (lv_at hl 4 rfl) ?_
          refine va_get (D := D) (ci := 0) (v := .ref (h 8)) (C := RX0) (T := TX0) (N := 13) hx hb hts in_X0 hown hK hP 0 rfl rfl 8 (by decide) (hts _ q34) (fun _ h9 => h9) rfl dX0_push_126 ?_
          refine lv_iload hx hb dX0_push_129 (lv_at hl 0 rfl) ?_
          refine lv_iconst (v := (nI 1)) hx hb dX0_push_131 (by decide) ?_
          refine lv_ishr hx hb dX0_push_132 ?_
          refine lv_topi (fun y9 ey9 => ?_)
          obtain rfl : y9 = nI e := ey9.trans (cr_shr_o e hed)
          refine lv_dup2_11 hx hb dX0_push_133 rfl rfl ?_
          refine va_iald hx hb hK hP 8 0 rfl rfl (vp_in_nI (show e < 25 by omega) (by decide)) dX0_push_134 ?_
          refine lv_topi (fun y9 ey9 => ?_)
          obtain rfl : y9 = f e := ey9.trans (congrArg f (nI_clamp (show e < 2 ^ 31 by omega)))
          refine lv_iload hx hb dX0_push_135 (lv_at hl 0 rfl) ?_
          refine lv_iconst (v := (nI 1)) hx hb dX0_push_137 (by decide) ?_
          refine lv_iand hx hb dX0_push_138 ?_
          refine lv_topi (fun y9 ey9 => ?_)
          obtain rfl : y9 = (nI 1) := ey9.trans (cr_and_o e hed)
          refine lv_if_ne (tgt := 147) hx hb dX0_push_139 (by decide) (fun c3 => ?_) (fun c3 => ?_)
          · refine lv_iload hx hb dX0_push_147 (lv_at hl 3 rfl) ?_
            refine lv_ineg hx hb dX0_push_149 ?_
            refine lv_iadd hx hb dX0_push_150 ?_
            refine lv_topi (fun zz ezz => ?_)
            have hn2 : (-amt).toInt = -amt.toInt := fb_negI (by omega)
            have hz2 : zz.toInt = (f e).toInt - amt.toInt := by rw [ezz, fb_addI (by omega) (by omega)]; omega
            refine va_iast hx hb hK hP hD hS 8 0 rfl rfl (vp_in_nI (show e < 25 by omega) (by decide)) dX0_push_151 (fun H locs hP hD hS => ?_)
            rw [nI_clamp (show e < 2 ^ 31 by omega)] at hP hD
            have hP : va_P D vwCl (xw d h cnt nd sn fr to lo hi ta he ro (upd f e zz) bY qu) H := hP
            have hD : va_D A (xw d h cnt nd sn fr to lo hi ta he ro (upd f e zz) bY qu) := hD
            refine lv_iload hx hb dX0_push_152 (lv_at hl 0 rfl) ?_
            refine lv_iconst (v := (nI 1)) hx hb dX0_push_154 (by decide) ?_
            refine lv_iand hx hb dX0_push_155 ?_
            refine lv_topi (fun y9 ey9 => ?_)
            obtain rfl : y9 = (nI 1) := ey9.trans (cr_and_o e hed)
            refine lv_if_ne (tgt := 171) hx hb dX0_push_156 (by decide) (fun c4 => ?_) (fun c4 => ?_)
            · refine lv_aload_n hx hb dX0_push_171 rfl (lv_at hl 4 rfl) ?_
              refine va_get (D := D) (ci := 0) (v := .ref (h 6)) (C := RX0) (T := TX0) (N := 13) hx hb hts in_X0 hown hK hP 0 rfl rfl 6 (by decide) (hts _ q32) (fun _ h9 => h9) rfl dX0_push_172 ?_
              refine lv_iload hx hb dX0_push_175 (lv_at hl 0 rfl) ?_
              refine lv_iconst (v := (nI 1)) hx hb dX0_push_177 (by decide) ?_
              refine lv_ishr hx hb dX0_push_178 ?_
              refine lv_topi (fun y9 ey9 => ?_)
              obtain rfl : y9 = nI e := ey9.trans (cr_shr_o e hed)
              refine va_iald hx hb hK hP 6 0 rfl rfl (vp_in_nI (show e < 25 by omega) (by decide)) dX0_push_179 ?_
              refine lv_topi (fun y9 ey9 => ?_)
              obtain rfl : y9 = he e := ey9.trans (congrArg he (nI_clamp (show e < 2 ^ 31 by omega)))
              refine lv_topi (fun y9 ey9 => ?_)
              obtain rfl : y9 = nI z := ey9.trans (by rw [t2, e1])
              refine lv_istore (lv' := [(5, .int (nI z)), (7, .int (nI (2 * e + 1))), (6, .int (nI i)), (4, .int amt), (0, .ref (h 0)), (1, .int (nI x)), (2, .int (nI y))]) hx hb dX0_push_180 hl (by decide) rfl (fun ls hl => ?_)
              refine lv_iinc (v := (nI (i + 1))) (lv' := [(6, .int (nI (i + 1))), (5, .int (nI z)), (7, .int (nI (2 * e + 1))), (4, .int amt), (0, .ref (h 0)), (1, .int (nI x)), (2, .int (nI y))]) hx hb dX0_push_182 hl (k := 2) rfl (cr_inc i) (by decide) rfl (fun ls hl => ?_)
              refine lv_goto (tgt := 103) hx hb dX0_push_185 (by decide) ?_
              exact ih (i + 1) z _ H locs ls (by omega) (by omega) hz8 hok (cr_Psh_step h5 hed hwo hrk (Or.inr ⟨e1, e2, hz2, by omega, e3⟩)) hP hD hS (lv_sub hl [0, 1, 3, 4, 5, 6] rfl)
            · exact absurd c4 cr_1ne
          · exact absurd c3 cr_1ne
set_option maxHeartbeats 4000000 in
set_option maxRecDepth 100000 in
/-- push(x, y, most) -/
theorem metX0_push (l : Launch) (D : va_G) (d : ClassId) (h : Nat → Nat) (sz : Nat) (cnt nd sn : Int32) (fr to lo hi ta he ro fl bY qu : Nat → Int32) (T G : Nat → Nat) (x y : Nat) (wo most : Int32) (rk : Nat → Nat) (hE : cr_Ends T G ta he) (hV : cr_Val T G ro fl) (hx8 : x < 8) (hy8 : y < 8) (hT : cr_Tree T G ro fl wo x bY rk) (hy : 0 ≤ (bY y).toInt) (hxy : y ≠ x) (hm : 1 ≤ most.toInt) (hm2 : most.toInt ≤ 240) : cr_Mi l D d (xw d h cnt nd sn fr to lo hi ta he ro fl bY qu) sz yX0_push cX0_push 8 (some .int) 1 22 [.ref (h 0), .int (nI x), .int (nI y), .int most] (S := Nat → Int32) (fun r f => 1 ≤ r.toInt ∧ r.toInt ≤ most.toInt ∧ cr_Psh T G ro fl wo rk r.toInt y x f) (fun f => xw d h cnt nd sn fr to lo hi ta he ro f bY qu) := by
  refine cr_begin (Qc := fun A => va_Qi _ (cr_Bh D d A _) A) (by decide) (Nat.le_of_ble_eq_true rfl) ?_
  intro p env s m below meth c A ls hx hb hr hml hts hown hlocks hA hP hK hD hS hl
  have hown : s.vm.findClass RX0 = some m.cls := hown
  have hl : lv_has ls 8 [(0, .ref (h 0)), (1, .int (nI x)), (2, .int (nI y)), (3, .int most)] := hl
  have hrk8 := (hT y hy8 hxy hy).1
  refine lv_iload_n hx hb dX0_push_0 rfl (lv_at hl 3 rfl) ?_
  refine lv_istore (lv' := [(4, .int most), (0, .ref (h 0)), (1, .int (nI x)), (2, .int (nI y)), (3, .int most)]) hx hb dX0_push_1 hl (by decide) rfl (fun ls hl => ?_)
  refine lv_iload_n hx hb dX0_push_3 rfl (lv_at hl 3 rfl) ?_
  refine lv_istore (lv' := [(5, .int (nI y)), (4, .int most), (0, .ref (h 0)), (1, .int (nI x)), (2, .int (nI y)), (3, .int most)]) hx hb dX0_push_4 hl (by decide) rfl (fun ls hl => ?_)
  refine lv_iconst (v := (nI 0)) hx hb dX0_push_6 (by decide) ?_
  refine lv_istore (lv' := [(6, .int (nI 0)), (5, .int (nI y)), (4, .int most), (0, .ref (h 0)), (1, .int (nI x)), (2, .int (nI y)), (3, .int most)]) hx hb dX0_push_7 hl (by decide) rfl (fun ls hl => ?_)
  refine lpX0_push_9 hx hb hml hown hts hA hK cnt nd sn fr to lo hi ta he ro fl bY qu T G x y wo rk hx8 hE hV hT 8 0 y most s.heap [] ls (by omega) hrk8 hy8 hy hm (fun amt H locs ls g1 g2 g3 hP hD hS hl => ?_) hP hD hS (lv_sub hl [0, 1, 2, 3, 4, 5] rfl)
  refine lv_iload_n hx hb dX0_push_97 rfl (lv_at hl 3 rfl) ?_
  refine lv_istore (lv' := [(5, .int (nI y)), (4, .int amt), (0, .ref (h 0)), (1, .int (nI x)), (2, .int (nI y))]) hx hb dX0_push_98 hl (by decide) rfl (fun ls hl => ?_)
  refine lv_iconst (v := (nI 0)) hx hb dX0_push_100 (by decide) ?_
  refine lv_istore (lv' := [(6, .int (nI 0)), (5, .int (nI y)), (4, .int amt), (0, .ref (h 0)), (1, .int (nI x)), (2, .int (nI y))]) hx hb dX0_push_101 hl (by decide) rfl (fun ls hl => ?_)
  refine lpX0_push_103 hx hb hml hown hts hA hK cnt nd sn fr to lo hi ta he ro fl bY qu T G x y wo rk hx8 hE amt g1 (by omega) (fun f H locs ls hJ hP hD hS hl => ?_) 8 0 y fl H locs ls (by omega) hrk8 hy8 g3 (cr_Psh_0 hV) hP hD hS (lv_sub hl [0, 1, 2, 3, 4, 5] rfl)
  refine lv_iload hx hb dX0_push_188 (lv_at hl 0 rfl) ?_
  exact cr_iret f hx hb hr hlocks hK hP hD hS dX0_push_190 (⟨g1, g2, hJ⟩)
end
section
/-! MODULE CirculationRange: moveAll, solve -/
/-- moved so far -/
def cr_Mo (T G : Nat → Nat) (ro fl : Nat → Int32) (wo : Int32) (x y : Nat) (most mo : Int32) (f : Nat → Int32) : Prop := 0 ≤ mo.toInt ∧ mo.toInt ≤ most.toInt ∧ cr_Val T G ro f ∧ (∀ e, e < 25 → nI e = wo → f e = fl e) ∧ ∀ p : Nat → Int, cr_pot T G (cr_i f) p 25 = cr_pot T G (cr_i fl) p 25 + mo.toInt * (p y - p x)
theorem cr_Mo_0 {T G : Nat → Nat} {ro fl : Nat → Int32} {wo : Int32} {x y : Nat} {most : Int32} (hV : cr_Val T G ro fl) (hm : 0 ≤ most.toInt) : cr_Mo T G ro fl wo x y most (nI 0) fl := by
  have e : (nI 0).toInt = 0 := rfl
  refine ⟨by rw [e]; omega, by rw [e]; exact hm, hV, fun _ _ _ => rfl, fun p => ?_⟩
  rw [e, Int.zero_mul]
  omega
theorem cr_Mo_step {T G : Nat → Nat} {ro fl : Nat → Int32} {wo : Int32} {x y : Nat} {most mo mo1 r : Int32} {f f1 : Nat → Int32} {rk : Nat → Nat} (h : cr_Mo T G ro fl wo x y most mo f) (hp : cr_Psh T G ro f wo rk r.toInt y x f1) (hr : 1 ≤ r.toInt) (e1 : mo1.toInt = mo.toInt + r.toInt) (e2 : mo1.toInt ≤ most.toInt) : cr_Mo T G ro fl wo x y most mo1 f1 := by
  obtain ⟨h1, h2, h3, h4, h5⟩ := h
  obtain ⟨p1, p2, p3, -⟩ := hp
  refine ⟨by omega, e2, p1, fun e he hw => (p2 e he hw).trans (h4 e he hw), fun p => ?_⟩
  rw [p3 p, h5 p, e1, Int.add_mul]
  omega
/-- whether there is more to move -/
def cr_More (T G : Nat → Nat) (ro : Nat → Int32) (wo : Int32) (x y : Nat) (most mo mv : Int32) (f bY : Nat → Int32) : Prop := (mv = nI 1 ∧ mo.toInt < most.toInt ∧ ∃ rk, cr_Tree T G ro f wo x bY rk ∧ 0 ≤ (bY y).toInt) ∨ (mv = nI 0 ∧ (mo = most ∨ cr_Stop T G ro f wo x y))
theorem cr_More_yes {T G : Nat → Nat} {ro f : Nat → Int32} {wo : Int32} {x y : Nat} {most mo r : Int32} {bY : Nat → Int32} (h : cr_FW T G ro f wo x y r bY) (hr : ¬ r = 0) (hm : mo.toInt < most.toInt) : cr_More T G ro wo x y most mo (nI 1) f bY := by
  obtain ⟨h1, -, ⟨rk, h3⟩, -⟩ := h
  refine Or.inl ⟨rfl, hm, rk, h3, ?_⟩
  by_cases q : 0 ≤ (bY y).toInt
  · exact q
  · rw [if_neg q] at h1
    exact absurd h1 hr
set_option maxHeartbeats 4000000 in
set_option maxRecDepth 100000 in
/-- push by push -/
theorem lpX0_moveAll_28 {p : Program} {l : Launch} {env : Env} {s : State} {m : MethodId} {args : Array Value} {below : List Frame} {meth : Method} {c : Code} {Q : State → Prop} {D : va_G} {d : ClassId} {h : Nat → Nat} {A : Nat → Prop} (hx : p.tables.exec = Jvm.exec) (hb : c.code = cX0_moveAll) (hml : c.maxLocals = 8) (hown : s.vm.findClass RX0 = some m.cls) (hts : ∀ w ∈ lw_all, w.before args s = true) (hA : ∀ q, s.heap.size ≤ q → A q) (hK : va_K D vwCl [(d, .int)] s) (cnt nd sn : Int32) (fr to lo hi ta he ro fl : Nat → Int32) (T G : Nat → Nat) (x y : Nat) (wo most : Int32) (hx8 : x < 8) (hy8 : y < 8) (hxy : y ≠ x) (hE : cr_Ends T G ta he) (hm2 : most.toInt ≤ 240)
    (K : ∀ (mo : Int32) (f bY qu : Nat → Int32) (H : Heap) (locs : List Loc) (ls : Array Slot), (cr_Mo T G ro fl wo x y most mo f) → (mo = most ∨ cr_Stop T G ro f wo x y) → va_P D vwCl (xw d h cnt nd sn fr to lo hi ta he ro f bY qu) H → va_D A (xw d h cnt nd sn fr to lo hi ta he ro f bY qu) → va_S A s.heap H locs → lv_has ls 8 [(5, .int mo), (0, .ref (h 0)), (1, .int (nI x)), (2, .int (nI y)), (3, .int wo), (4, .int most)] → W p l env ({ frames := 2, cells := 0, slots := 0, locals := 50 } : Room) s m args below meth c H locs 0 0 Q (F0 m 87 ls []))
    : ∀ (n : Nat) (i : Nat) (mo mv : Int32) (f bY qu : Nat → Int32) (H : Heap) (locs : List Loc) (ls : Array Slot), (251 ≤ i + n) → ((i : Int) ≤ mo.toInt) → (cr_Mo T G ro fl wo x y most mo f) → (cr_More T G ro wo x y most mo mv f bY) → va_P D vwCl (xw d h cnt nd sn fr to lo hi ta he ro f bY qu) H → va_D A (xw d h cnt nd sn fr to lo hi ta he ro f bY qu) → va_S A s.heap H locs → lv_has ls 8 [(7, .int (nI i)), (6, .int mv), (5, .int mo), (0, .ref (h 0)), (1, .int (nI x)), (2, .int (nI y)), (3, .int wo), (4, .int most)] → W p l env ({ frames := 2, cells := 0, slots := 0, locals := 50 } : Room) s m args below meth c H locs 0 0 Q (F0 m 28 ls []) := by
  intro n
  induction n with
  | zero =>
    intro i mo mv f bY qu H locs ls h1 h2 h3 h4
    exfalso
    have := h3.2.1
    omega
  | succ n ih =>
    intro i mo mv f bY qu H locs ls h1 h2 h3 h4 hP hD hS hl
    have h5 := h3.1
    have h6 := h3.2.1
    rcases h4 with ⟨rfl, h7, rk, hT, hby⟩ | ⟨rfl, h7⟩
    · refine lv_iload hx hb dX0_moveAll_28 (lv_at hl 0 rfl) ?_
      refine lv_sipush (v := (nI 250)) hx hb dX0_moveAll_30 (by decide) ?_
      refine lv_icmp_ge (tgt := 87) hx hb dX0_moveAll_33 (by decide) (fun c1 => ?_) (fun c1 => ?_)
      · exact absurd (cr_le (by omega) (by omega) c1) (by omega)
      · refine lv_iload hx hb dX0_moveAll_36 (lv_at hl 1 rfl) ?_
        refine lv_if_eq (tgt := 87) hx hb dX0_moveAll_38 (by decide) (fun c2 => ?_) (fun c2 => ?_)
        · exact absurd c2 cr_1ne
        · refine lv_iload hx hb dX0_moveAll_41 (lv_at hl 2 rfl) ?_
          refine lv_aload_n hx hb dX0_moveAll_43 rfl (lv_at hl 3 rfl) ?_
          refine lv_iload_n hx hb dX0_moveAll_44 rfl (lv_at hl 4 rfl) ?_
          refine lv_iload_n hx hb dX0_moveAll_45 rfl (lv_at hl 5 rfl) ?_
          refine lv_iload hx hb dX0_moveAll_46 (lv_at hl 7 rfl) ?_
          refine lv_iload hx hb dX0_moveAll_48 (lv_at hl 2 rfl) ?_
          refine lv_isub hx hb dX0_moveAll_50 ?_
          refine lv_topi (fun mm emm => ?_)
          have hmm : mm.toInt = most.toInt - mo.toInt := by rw [emm, fb_subI (by omega) (by omega)]
          refine cr_selfi (As := [.int (nI x), .int (nI y), .int mm]) (rest := [.int mo]) ⟨hx, hb, hml, hown, hts⟩ (metX0_push l D d h H.size cnt nd sn fr to lo hi ta he ro f bY qu T G x y wo mm rk hE h3.2.2.1 hx8 hy8 hT hby hxy (by omega) (by omega)) (cwV 3 hts (lw_V q118 q120 qs7 q16 q121) rfl rfl rfl (by decide +kernel) ⟨Nat.le_of_ble_eq_true rfl, Nat.le_of_ble_eq_true rfl⟩) hK hP hD hS hA (ci := 0) rfl rfl rfl hl.1 rfl (Nat.le_of_ble_eq_true rfl) dX0_moveAll_51 ⟨Nat.le_refl _, Nat.le_refl _⟩ (fun r f1 H locs hw hP hD hS => ?_)
          obtain ⟨g1, g2, g3⟩ := hw
          have hP : va_P D vwCl (xw d h cnt nd sn fr to lo hi ta he ro f1 bY qu) H := hP
          have hD : va_D A (xw d h cnt nd sn fr to lo hi ta he ro f1 bY qu) := hD
          refine lv_iadd hx hb dX0_moveAll_54 ?_
          refine lv_topi (fun mo1 emo1 => ?_)
          have hmo : mo1.toInt = mo.toInt + r.toInt := by rw [emo1, fb_addI (by omega) (by omega)]
          have hM := cr_Mo_step h3 g3 g1 hmo (by omega)
          refine lv_istore (lv' := [(5, .int mo1), (7, .int (nI i)), (6, .int (nI 1)), (0, .ref (h 0)), (1, .int (nI x)), (2, .int (nI y)), (3, .int wo), (4, .int most)]) hx hb dX0_moveAll_55 hl (by decide) rfl (fun ls hl => ?_)
          refine lv_iload hx hb dX0_moveAll_57 (lv_at hl 0 rfl) ?_
          refine lv_iload hx hb dX0_moveAll_59 (lv_at hl 7 rfl) ?_
          refine lv_icmp_ge (tgt := 78) hx hb dX0_moveAll_61 (by decide) (fun c3 => ?_) (fun c3 => ?_)
          · rw [Int32.le_iff_toInt_le] at c3
            refine lv_iconst (v := (nI 0)) hx hb dX0_moveAll_78 (by decide) ?_
            refine lv_istore (lv' := [(6, .int (nI 0)), (5, .int mo1), (7, .int (nI i)), (0, .ref (h 0)), (1, .int (nI x)), (2, .int (nI y)), (3, .int wo), (4, .int most)]) hx hb dX0_moveAll_79 hl (by decide) rfl (fun ls hl => ?_)
            refine lv_iinc (v := (nI (i + 1))) (lv' := [(7, .int (nI (i + 1))), (6, .int (nI 0)), (5, .int mo1), (0, .ref (h 0)), (1, .int (nI x)), (2, .int (nI y)), (3, .int wo), (4, .int most)]) hx hb dX0_moveAll_81 hl (k := 2) rfl (cr_inc i) (by decide) rfl (fun ls hl => ?_)
            refine lv_goto (tgt := 28) hx hb dX0_moveAll_84 (by decide) ?_
            exact ih (i + 1) mo1 _ f1 bY qu H locs ls (by omega) (by omega) hM (Or.inr ⟨rfl, Or.inl (Int32.toInt_inj.mp (by omega))⟩) hP hD hS (lv_sub hl [0, 1, 2, 3, 4, 5, 6, 7] rfl)
          · rw [Int32.le_iff_toInt_le] at c3
            refine lv_aload_n hx hb dX0_moveAll_64 rfl (lv_at hl 3 rfl) ?_
            refine lv_iload_n hx hb dX0_moveAll_65 rfl (lv_at hl 4 rfl) ?_
            refine lv_iload_n hx hb dX0_moveAll_66 rfl (lv_at hl 5 rfl) ?_
            refine lv_iload_n hx hb dX0_moveAll_67 rfl (lv_at hl 6 rfl) ?_
            refine cr_selfi (As := [.int (nI x), .int (nI y), .int wo]) (rest := []) ⟨hx, hb, hml, hown, hts⟩ (metX0_findWay l D d h H.size cnt nd sn fr to lo hi ta he ro f1 bY qu T G x y wo hE hM.2.2.1 hx8 hy8) (cwV 3 hts (lw_V q110 q112 qs5 q16 q113) rfl rfl rfl (by decide +kernel) ⟨Nat.le_of_ble_eq_true rfl, Nat.le_of_ble_eq_true rfl⟩) hK hP hD hS hA (ci := 0) rfl rfl rfl hl.1 rfl (Nat.le_of_ble_eq_true rfl) dX0_moveAll_68 ⟨Nat.le_refl _, Nat.le_refl _⟩ (fun r2 u H locs hw hP hD hS => ?_)
            obtain ⟨bY1, qu1⟩ := u
            have hP : va_P D vwCl (xw d h cnt nd sn fr to lo hi ta he ro f1 bY1 qu1) H := hP
            have hD : va_D A (xw d h cnt nd sn fr to lo hi ta he ro f1 bY1 qu1) := hD
            refine lv_if_eq (tgt := 78) hx hb dX0_moveAll_71 (by decide) (fun c4 => ?_) (fun c4 => ?_)
            · refine lv_iconst (v := (nI 0)) hx hb dX0_moveAll_78 (by decide) ?_
              refine lv_istore (lv' := [(6, .int (nI 0)), (5, .int mo1), (7, .int (nI i)), (0, .ref (h 0)), (1, .int (nI x)), (2, .int (nI y)), (3, .int wo), (4, .int most)]) hx hb dX0_moveAll_79 hl (by decide) rfl (fun ls hl => ?_)
              refine lv_iinc (v := (nI (i + 1))) (lv' := [(7, .int (nI (i + 1))), (6, .int (nI 0)), (5, .int mo1), (0, .ref (h 0)), (1, .int (nI x)), (2, .int (nI y)), (3, .int wo), (4, .int most)]) hx hb dX0_moveAll_81 hl (k := 2) rfl (cr_inc i) (by decide) rfl (fun ls hl => ?_)
              refine lv_goto (tgt := 28) hx hb dX0_moveAll_84 (by decide) ?_
              exact ih (i + 1) mo1 _ f1 bY1 qu1 H locs ls (by omega) (by omega) hM (Or.inr ⟨rfl, Or.inr (cr_FW_stop hE hM.2.2.1 hw c4)⟩) hP hD hS (lv_sub hl [0, 1, 2, 3, 4, 5, 6, 7] rfl)
            · refine lv_iconst (v := (nI 1)) hx hb dX0_moveAll_74 (by decide) ?_
              refine lv_goto (tgt := 79) hx hb dX0_moveAll_75 (by decide) ?_
              refine lv_istore (lv' := [(6, .int (nI 1)), (5, .int mo1), (7, .int (nI i)), (0, .ref (h 0)), (1, .int (nI x)), (2, .int (nI y)), (3, .int wo), (4, .int most)]) hx hb dX0_moveAll_79 hl (by decide) rfl (fun ls hl => ?_)
              refine lv_iinc (v := (nI (i + 1))) (lv' := [(7, .int (nI (i + 1))), (6, .int (nI 1)), (5, .int mo1), (0, .ref (h 0)), (1, .int (nI x)), (2, .int (nI y)), (3, .int wo), (4, .int most)]) hx hb dX0_moveAll_81 hl (k := 2) rfl (cr_inc i) (by decide) rfl (fun ls hl => ?_)
              refine lv_goto (tgt := 28) hx hb dX0_moveAll_84 (by decide) ?_
              exact ih (i + 1) mo1 _ f1 bY1 qu1 H locs ls (by omega) (by omega) hM (cr_More_yes hw c4 (by omega)) hP hD hS (lv_sub hl [0, 1, 2, 3, 4, 5, 6, 7] rfl)
    · refine lv_iload hx hb dX0_moveAll_28 (lv_at hl 0 rfl) ?_
      refine lv_sipush (v := (nI 250)) hx hb dX0_moveAll_30 (by decide) ?_
      refine lv_icmp_ge (tgt := 87) hx hb dX0_moveAll_33 (by decide) (fun c1 => ?_) (fun c1 => ?_)
      · exact K mo f bY qu H locs ls h3 h7 hP hD hS (lv_sub hl [2, 3, 4, 5, 6, 7] rfl)
      · refine lv_iload hx hb dX0_moveAll_36 (lv_at hl 1 rfl) ?_
        refine lv_if_eq (tgt := 87) hx hb dX0_moveAll_38 (by decide) (fun c2 => ?_) (fun c2 => ?_)
        · exact K mo f bY qu H locs ls h3 h7 hP hD hS (lv_sub hl [2, 3, 4, 5, 6, 7] rfl)
        · exact absurd rfl c2
set_option maxHeartbeats 4000000 in
set_option maxRecDepth 100000 in
/-- moveAll(x, y, without, most) -/
theorem metX0_moveAll (l : Launch) (D : va_G) (d : ClassId) (h : Nat → Nat) (sz : Nat) (cnt nd sn : Int32) (fr to lo hi ta he ro fl bY qu : Nat → Int32) (T G : Nat → Nat) (x y : Nat) (wo most : Int32) (hE : cr_Ends T G ta he) (hV : cr_Val T G ro fl) (hx8 : x < 8) (hy8 : y < 8) (hxy : y ≠ x) (hm : 0 ≤ most.toInt) (hm2 : most.toInt ≤ 240) : cr_Mi l D d (xw d h cnt nd sn fr to lo hi ta he ro fl bY qu) sz yX0_moveAll cX0_moveAll 8 (some .int) 2 50 [.ref (h 0), .int (nI x), .int (nI y), .int wo, .int most] (S := (Nat → Int32) × (Nat → Int32) × (Nat → Int32)) (fun r u => cr_MA T G ro fl wo x y most r u.1) (fun u => xw d h cnt nd sn fr to lo hi ta he ro u.1 u.2.1 u.2.2) := by
  refine cr_begin (Qc := fun A => va_Qi _ (cr_Bh D d A _) A) (by decide) (Nat.le_of_ble_eq_true rfl) ?_
  intro p env s m below meth c A ls hx hb hr hml hts hown hlocks hA hP hK hD hS hl
  have hown : s.vm.findClass RX0 = some m.cls := hown
  have hl : lv_has ls 8 [(0, .ref (h 0)), (1, .int (nI x)), (2, .int (nI y)), (3, .int wo), (4, .int most)] := hl
  refine lv_iconst (v := (nI 0)) hx hb dX0_moveAll_0 (by decide) ?_
  refine lv_istore (lv' := [(5, .int (nI 0)), (0, .ref (h 0)), (1, .int (nI x)), (2, .int (nI y)), (3, .int wo), (4, .int most)]) hx hb dX0_moveAll_1 hl (by decide) rfl (fun ls hl => ?_)
  refine lv_iload hx hb dX0_moveAll_3 (lv_at hl 5 rfl) ?_
  refine lv_if_le (tgt := 22) hx hb dX0_moveAll_5 (by decide) (fun c1 => ?_) (fun c1 => ?_)
  · rw [cr_le0] at c1
    refine lv_iconst (v := (nI 0)) hx hb dX0_moveAll_22 (by decide) ?_
    refine lv_istore (lv' := [(6, .int (nI 0)), (5, .int (nI 0)), (0, .ref (h 0)), (1, .int (nI x)), (2, .int (nI y)), (3, .int wo), (4, .int most)]) hx hb dX0_moveAll_23 hl (by decide) rfl (fun ls hl => ?_)
    refine lv_iconst (v := (nI 0)) hx hb dX0_moveAll_25 (by decide) ?_
    refine lv_istore (lv' := [(7, .int (nI 0)), (6, .int (nI 0)), (5, .int (nI 0)), (0, .ref (h 0)), (1, .int (nI x)), (2, .int (nI y)), (3, .int wo), (4, .int most)]) hx hb dX0_moveAll_26 hl (by decide) rfl (fun ls hl => ?_)
    refine lpX0_moveAll_28 hx hb hml hown hts hA hK cnt nd sn fr to lo hi ta he ro fl T G x y wo most hx8 hy8 hxy hE hm2 (fun mo f bY qu H locs ls hM hZ hP hD hS hl => ?_) 251 0 (nI 0) (nI 0) fl bY qu _ _ ls (by omega) (Int.le_refl 0) (cr_Mo_0 hV hm) (Or.inr ⟨rfl, Or.inl (Int32.toInt_inj.mp (show (0 : Int) = most.toInt by omega))⟩) hP hD hS (lv_sub hl [0, 1, 2, 3, 4, 5, 6, 7] rfl)
    refine lv_iload hx hb dX0_moveAll_87 (lv_at hl 0 rfl) ?_
    exact cr_iret (f, bY, qu) hx hb hr hlocks hK hP hD hS dX0_moveAll_89 (⟨hM.1, hM.2.1, hM.2.2.1, hM.2.2.2.1, hM.2.2.2.2, hZ⟩)
  · rw [cr_le0] at c1
    refine lv_aload_n hx hb dX0_moveAll_8 rfl (lv_at hl 1 rfl) ?_
    refine lv_iload_n hx hb dX0_moveAll_9 rfl (lv_at hl 2 rfl) ?_
    refine lv_iload_n hx hb dX0_moveAll_10 rfl (lv_at hl 3 rfl) ?_
    refine lv_iload_n hx hb dX0_moveAll_11 rfl (lv_at hl 4 rfl) ?_
    refine cr_selfi (As := [.int (nI x), .int (nI y), .int wo]) (rest := []) ⟨hx, hb, hml, hown, hts⟩ (metX0_findWay l D d h s.heap.size cnt nd sn fr to lo hi ta he ro fl bY qu T G x y wo hE hV hx8 hy8) (cwV 3 hts (lw_V q110 q112 qs5 q16 q113) rfl rfl rfl (by decide +kernel) ⟨Nat.le_of_ble_eq_true rfl, Nat.le_of_ble_eq_true rfl⟩) hK hP hD hS hA (ci := 0) rfl rfl rfl hl.1 rfl (Nat.le_of_ble_eq_true rfl) dX0_moveAll_12 ⟨Nat.le_refl _, Nat.le_refl _⟩ (fun r2 u H locs hw hP hD hS => ?_)
    obtain ⟨bY1, qu1⟩ := u
    have hP : va_P D vwCl (xw d h cnt nd sn fr to lo hi ta he ro fl bY1 qu1) H := hP
    have hD : va_D A (xw d h cnt nd sn fr to lo hi ta he ro fl bY1 qu1) := hD
    refine lv_if_eq (tgt := 22) hx hb dX0_moveAll_15 (by decide) (fun c4 => ?_) (fun c4 => ?_)
    · refine lv_iconst (v := (nI 0)) hx hb dX0_moveAll_22 (by decide) ?_
      refine lv_istore (lv' := [(6, .int (nI 0)), (5, .int (nI 0)), (0, .ref (h 0)), (1, .int (nI x)), (2, .int (nI y)), (3, .int wo), (4, .int most)]) hx hb dX0_moveAll_23 hl (by decide) rfl (fun ls hl => ?_)
      refine lv_iconst (v := (nI 0)) hx hb dX0_moveAll_25 (by decide) ?_
      refine lv_istore (lv' := [(7, .int (nI 0)), (6, .int (nI 0)), (5, .int (nI 0)), (0, .ref (h 0)), (1, .int (nI x)), (2, .int (nI y)), (3, .int wo), (4, .int most)]) hx hb dX0_moveAll_26 hl (by decide) rfl (fun ls hl => ?_)
      refine lpX0_moveAll_28 hx hb hml hown hts hA hK cnt nd sn fr to lo hi ta he ro fl T G x y wo most hx8 hy8 hxy hE hm2 (fun mo f bY qu H locs ls hM hZ hP hD hS hl => ?_) 251 0 (nI 0) (nI 0) fl bY1 qu1 H locs ls (by omega) (Int.le_refl 0) (cr_Mo_0 hV hm) (Or.inr ⟨rfl, Or.inr (cr_FW_stop hE hV hw c4)⟩) hP hD hS (lv_sub hl [0, 1, 2, 3, 4, 5, 6, 7] rfl)
      refine lv_iload hx hb dX0_moveAll_87 (lv_at hl 0 rfl) ?_
      exact cr_iret (f, bY, qu) hx hb hr hlocks hK hP hD hS dX0_moveAll_89 (⟨hM.1, hM.2.1, hM.2.2.1, hM.2.2.2.1, hM.2.2.2.2, hZ⟩)
    · refine lv_iconst (v := (nI 1)) hx hb dX0_moveAll_18 (by decide) ?_
      refine lv_goto (tgt := 23) hx hb dX0_moveAll_19 (by decide) ?_
      refine lv_istore (lv' := [(6, .int (nI 1)), (5, .int (nI 0)), (0, .ref (h 0)), (1, .int (nI x)), (2, .int (nI y)), (3, .int wo), (4, .int most)]) hx hb dX0_moveAll_23 hl (by decide) rfl (fun ls hl => ?_)
      refine lv_iconst (v := (nI 0)) hx hb dX0_moveAll_25 (by decide) ?_
      refine lv_istore (lv' := [(7, .int (nI 0)), (6, .int (nI 1)), (5, .int (nI 0)), (0, .ref (h 0)), (1, .int (nI x)), (2, .int (nI y)), (3, .int wo), (4, .int most)]) hx hb dX0_moveAll_26 hl (by decide) rfl (fun ls hl => ?_)
      refine lpX0_moveAll_28 hx hb hml hown hts hA hK cnt nd sn fr to lo hi ta he ro fl T G x y wo most hx8 hy8 hxy hE hm2 (fun mo f bY qu H locs ls hM hZ hP hD hS hl => ?_) 251 0 (nI 0) (nI 1) fl bY1 qu1 H locs ls (by omega) (Int.le_refl 0) (cr_Mo_0 hV hm) (cr_More_yes hw c4 (show (0 : Int) < most.toInt by omega)) hP hD hS (lv_sub hl [0, 1, 2, 3, 4, 5, 6, 7] rfl)
      refine lv_iload hx hb dX0_moveAll_87 (lv_at hl 0 rfl) ?_
      exact cr_iret (f, bY, qu) hx hb hr hlocks hK hP hD hS dX0_moveAll_89 (⟨hM.1, hM.2.1, hM.2.2.1, hM.2.2.2.1, hM.2.2.2.2, hZ⟩)
set_option maxHeartbeats 4000000 in
set_option maxRecDepth 100000 in
/-- the need is added up -/
theorem lpX0_solve_7 {p : Program} {l : Launch} {env : Env} {s : State} {m : MethodId} {args : Array Value} {below : List Frame} {meth : Method} {c : Code} {Q : State → Prop} {D : va_G} {d : ClassId} {h : Nat → Nat} {A : Nat → Prop} (hx : p.tables.exec = Jvm.exec) (hb : c.code = cX0_solve) (hml : c.maxLocals = 2) (hown : s.vm.findClass RX0 = some m.cls) (hts : ∀ w ∈ lw_all, w.before args s = true) (hA : ∀ q, s.heap.size ≤ q → A q) (hK : va_K D vwCl [(d, .int)] s) (cnt sn : Int32) (fr to lo hi ta he ro fl bY qu : Nat → Int32) (hro : ∀ v, v < 6 → 0 ≤ cr_i ro (13 + v) ∧ cr_i ro (13 + v) ≤ 240)
    (K : ∀ (nd : Int32) (H : Heap) (locs : List Loc) (ls : Array Slot), (nd.toInt = cr_need ro) → va_P D vwCl (xw d h cnt nd sn fr to lo hi ta he ro fl bY qu) H → va_D A (xw d h cnt nd sn fr to lo hi ta he ro fl bY qu) → va_S A s.heap H locs → lv_has ls 2 [(1, .int (nI 6)), (0, .ref (h 0))] → W p l env ({ frames := 3, cells := 0, slots := 0, locals := 77 } : Room) s m args below meth c H locs 0 0 Q (F0 m 37 ls []))
    : ∀ (n : Nat) (i : Nat) (nd : Int32) (H : Heap) (locs : List Loc) (ls : Array Slot), (i ≤ 6) → (7 ≤ i + n) → (nd.toInt = fb_si (fun v => cr_i ro (13 + v)) i) → va_P D vwCl (xw d h cnt nd sn fr to lo hi ta he ro fl bY qu) H → va_D A (xw d h cnt nd sn fr to lo hi ta he ro fl bY qu) → va_S A s.heap H locs → lv_has ls 2 [(1, .int (nI i)), (0, .ref (h 0))] → W p l env ({ frames := 3, cells := 0, slots := 0, locals := 77 } : Room) s m args below meth c H locs 0 0 Q (F0 m 7 ls []) := by
  intro n
  induction n with
  | zero =>
    intro i nd H locs ls h1 h2 h3
    exfalso
    omega
  | succ n ih =>
    intro i nd H locs ls h1 h2 h3 hP hD hS hl
    refine lv_iload_n hx hb dX0_solve_7 rfl (lv_at hl 0 rfl) ?_
    refine lv_bipush (v := (nI 6)) hx hb dX0_solve_8 (by decide) ?_
    refine lv_icmp_ge (tgt := 37) hx hb dX0_solve_10 (by decide) (fun c1 => ?_) (fun c1 => ?_)
    · have q : i = 6 := by have := cr_le (by omega) (by omega) c1; omega
      subst q
      exact K nd H locs ls h3 hP hD hS hl
    · have q : i < 6 := cr_nle (by omega) (by omega) c1
      have hs := fb_si_bound (f := fun v => cr_i ro (13 + v)) (c := 240) (by decide) (n := i) (fun k hk => by have := hro k (by omega); omega)
      have hr1 := hro i q
      have hr1 : 0 ≤ (ro (13 + i)).toInt ∧ (ro (13 + i)).toInt ≤ 240 := hr1
      refine lv_aload_n hx hb dX0_solve_13 rfl (lv_at hl 1 rfl) ?_
      refine lv_dup hx hb dX0_solve_14 rfl ?_
      refine va_get (D := D) (ci := 0) (v := .int nd) (C := RX0) (T := TX0) (N := 13) hx hb hts in_X0 hown hK hP 0 rfl rfl 9 (by decide) (hts _ q35) (fun _ h9 => h9) rfl dX0_solve_15 ?_
      refine lv_aload_n hx hb dX0_solve_18 rfl (lv_at hl 1 rfl) ?_
      refine va_get (D := D) (ci := 0) (v := .ref (h 7)) (C := RX0) (T := TX0) (N := 13) hx hb hts in_X0 hown hK hP 0 rfl rfl 7 (by decide) (hts _ q33) (fun _ h9 => h9) rfl dX0_solve_19 ?_
      refine lv_bipush (v := (nI 13)) hx hb dX0_solve_22 (by decide) ?_
      refine lv_iload_n hx hb dX0_solve_24 rfl (lv_at hl 0 rfl) ?_
      refine lv_iadd hx hb dX0_solve_25 ?_
      refine lv_topi (fun y9 ey9 => ?_)
      obtain rfl : y9 = nI (13 + i) := ey9.trans (nI_add 13 i)
      refine va_iald hx hb hK hP 7 0 rfl rfl (vp_in_nI (show (13 + i) < 25 by omega) (by decide)) dX0_solve_26 ?_
      refine lv_topi (fun y9 ey9 => ?_)
      obtain rfl : y9 = ro (13 + i) := ey9.trans (congrArg ro (nI_clamp (show (13 + i) < 2 ^ 31 by omega)))
      refine lv_iadd hx hb dX0_solve_27 ?_
      refine lv_topi (fun nd1 end1 => ?_)
      have hn1 : nd1.toInt = nd.toInt + (ro (13 + i)).toInt := by rw [end1, fb_addI (by omega) (by omega)]
      refine va_put (D := D) (ci := 0) (v := .int nd1) (ty := .int) (C := RX0) (T := TX0) (N := 13) hx hb hts in_X0 tyX0 tyX0_ok nmX0 hown hK hP hD hS 0 rfl rfl 9 (by decide) (hts _ q35) (fun _ h9 => h9) rfl (by decide +kernel) rfl rfl (Nat.le_of_ble_eq_true rfl) dX0_solve_28 (fun H locs hP hD hS => ?_)
      have hP : va_P D vwCl (xw d h cnt nd1 sn fr to lo hi ta he ro fl bY qu) H := hP
      have hD : va_D A (xw d h cnt nd1 sn fr to lo hi ta he ro fl bY qu) := hD
      refine lv_iinc (v := (nI (i + 1))) (lv' := [(1, .int (nI (i + 1))), (0, .ref (h 0))]) hx hb dX0_solve_31 hl (k := 0) rfl (cr_inc i) (by decide) rfl (fun ls hl => ?_)
      refine lv_goto (tgt := 7) hx hb dX0_solve_34 (by decide) ?_
      exact ih (i + 1) nd1 H locs ls q (by omega) (by rw [hn1, h3]; rfl) hP hD hS hl
set_option maxHeartbeats 4000000 in
set_option maxRecDepth 100000 in
/-- solve() -/
theorem metX0_solve (l : Launch) (D : va_G) (d : ClassId) (h : Nat → Nat) (sz : Nat) (cnt nd sn : Int32) (fr to lo hi ta he ro fl bY qu : Nat → Int32) (T G : Nat → Nat) (hE : cr_Ends T G ta he) (hV : cr_Val T G ro fl) (hro : ∀ v, v < 6 → 0 ≤ cr_i ro (13 + v) ∧ cr_i ro (13 + v) ≤ 240) (hN : cr_need ro ≤ 240) : cr_Mv l D d (xw d h cnt nd sn fr to lo hi ta he ro fl bY qu) sz yX0_solve cX0_solve 2 3 77 [.ref (h 0)] (S := Int32 × Int32 × (Nat → Int32) × (Nat → Int32) × (Nat → Int32)) (fun u => u.1.toInt = cr_need ro ∧ cr_MA T G ro fl (-1) 6 7 u.1 u.2.1 u.2.2.1) (fun u => xw d h cnt u.1 u.2.1 fr to lo hi ta he ro u.2.2.1 u.2.2.2.1 u.2.2.2.2) := by
  refine cr_begin (Qc := fun A => va_Qv _ (cr_Bh D d A _) A) (by decide) (Nat.le_of_ble_eq_true rfl) ?_
  intro p env s m below meth c A ls hx hb hr hml hts hown hlocks hA hP hK hD hS hl
  have hown : s.vm.findClass RX0 = some m.cls := hown
  have hl : lv_has ls 2 [(0, .ref (h 0))] := hl
  refine lv_aload_n hx hb dX0_solve_0 rfl (lv_at hl 0 rfl) ?_
  refine lv_iconst (v := (nI 0)) hx hb dX0_solve_1 (by decide) ?_
  refine va_put (D := D) (ci := 0) (v := .int (nI 0)) (ty := .int) (C := RX0) (T := TX0) (N := 13) hx hb hts in_X0 tyX0 tyX0_ok nmX0 hown hK hP hD hS 0 rfl rfl 9 (by decide) (hts _ q35) (fun _ h9 => h9) rfl (by decide +kernel) rfl rfl (Nat.le_of_ble_eq_true rfl) dX0_solve_2 (fun H locs hP hD hS => ?_)
  have hP : va_P D vwCl (xw d h cnt (nI 0) sn fr to lo hi ta he ro fl bY qu) H := hP
  have hD : va_D A (xw d h cnt (nI 0) sn fr to lo hi ta he ro fl bY qu) := hD
  refine lv_iconst (v := (nI 0)) hx hb dX0_solve_5 (by decide) ?_
  refine lv_istore_n (lv' := [(1, .int (nI 0)), (0, .ref (h 0))]) hx hb dX0_solve_6 rfl hl (by decide) rfl (fun ls hl => ?_)
  refine lpX0_solve_7 hx hb hml hown hts hA hK cnt sn fr to lo hi ta he ro fl bY qu hro (fun nd H locs ls hn hP hD hS hl => ?_) 7 0 (nI 0) H locs ls (by omega) (by omega) rfl hP hD hS hl
  have hn0 : 0 ≤ cr_need ro := cr_si_nn (fun k hk => (hro k hk).1)
  refine lv_aload_n hx hb dX0_solve_37 rfl (lv_at hl 1 rfl) ?_
  refine lv_aload_n hx hb dX0_solve_38 rfl (lv_at hl 1 rfl) ?_
  refine lv_bipush (v := (nI 6)) hx hb dX0_solve_39 (by decide) ?_
  refine lv_bipush (v := (nI 7)) hx hb dX0_solve_41 (by decide) ?_
  refine lv_iconst (v := (-1)) hx hb dX0_solve_43 (by decide) ?_
  refine lv_aload_n hx hb dX0_solve_44 rfl (lv_at hl 1 rfl) ?_
  refine va_get (D := D) (ci := 0) (v := .int nd) (C := RX0) (T := TX0) (N := 13) hx hb hts in_X0 hown hK hP 0 rfl rfl 9 (by decide) (hts _ q35) (fun _ h9 => h9) rfl dX0_solve_45 ?_
  refine cr_selfi (As := [.int (nI 6), .int (nI 7), .int (-1), .int nd]) (rest := [.ref (h 0)]) ⟨hx, hb, hml, hown, hts⟩ (metX0_moveAll l D d h H.size cnt nd sn fr to lo hi ta he ro fl bY qu T G 6 7 (-1) nd hE hV (by decide) (by decide) (by decide) (by omega) (by omega)) (cwV 4 hts (lw_V q106 q108 qs4 q16 q109) rfl rfl rfl (by decide +kernel) ⟨Nat.le_of_ble_eq_true rfl, Nat.le_of_ble_eq_true rfl⟩) hK hP hD hS hA (ci := 0) rfl rfl rfl hl.1 rfl (Nat.le_of_ble_eq_true rfl) dX0_solve_48 ⟨Nat.le_refl _, Nat.le_refl _⟩ (fun r u H locs hw hP hD hS => ?_)
  obtain ⟨f, bY1, qu1⟩ := u
  have hP : va_P D vwCl (xw d h cnt nd sn fr to lo hi ta he ro f bY1 qu1) H := hP
  have hD : va_D A (xw d h cnt nd sn fr to lo hi ta he ro f bY1 qu1) := hD
  refine va_put (D := D) (ci := 0) (v := .int r) (ty := .int) (C := RX0) (T := TX0) (N := 13) hx hb hts in_X0 tyX0 tyX0_ok nmX0 hown hK hP hD hS 0 rfl rfl 10 (by decide) (hts _ q36) (fun _ h9 => h9) rfl (by decide +kernel) rfl rfl (Nat.le_of_ble_eq_true rfl) dX0_solve_51 (fun H locs hP hD hS => ?_)
  have hP : va_P D vwCl (xw d h cnt nd r fr to lo hi ta he ro f bY1 qu1) H := hP
  have hD : va_D A (xw d h cnt nd r fr to lo hi ta he ro f bY1 qu1) := hD
  exact cr_vret (nd, r, f, bY1, qu1) hx hb hr hlocks hK hP hD hS dX0_solve_54 (⟨hn, hw⟩)
end
section
/-! PLAIN: what build's loops leave -/
def cr_B1 (v : Nat) (ta he ro fl : Nat → Int32) : Prop := ∀ j, j < v → ta (13 + j) = nI 6 ∧ he (13 + j) = nI j ∧ ro (13 + j) = nI 0 ∧ fl (13 + j) = nI 0 ∧ ta (19 + j) = nI j ∧ he (19 + j) = nI 7 ∧ ro (19 + j) = nI 0 ∧ fl (19 + j) = nI 0
theorem cr_B1_step {v : Nat} {ta he ro fl : Nat → Int32} (h : cr_B1 v ta he ro fl) (hv : v < 6) : cr_B1 (v + 1) (upd (upd ta (13 + v) (nI 6)) (19 + v) (nI v)) (upd (upd he (13 + v) (nI v)) (19 + v) (nI 7)) (upd (upd ro (13 + v) (nI 0)) (19 + v) (nI 0)) (upd (upd fl (13 + v) (nI 0)) (19 + v) (nI 0)) := by
  intro j hj
  by_cases e : j = v
  · subst e
    refine ⟨?_, ?_, ?_, ?_, pk_us, pk_us, pk_us, pk_us⟩ <;> rw [pk_un (by omega), pk_us]
  · obtain ⟨a1, a2, a3, a4, a5, a6, a7, a8⟩ := h j (by omega)
    refine ⟨?_, ?_, ?_, ?_, ?_, ?_, ?_, ?_⟩ <;> rw [pk_un (by omega), pk_un (by omega)] <;> assumption
theorem cr_B1_keep {v a : Nat} {ta he ro fl : Nat → Int32} {x y z w : Int32} (h : cr_B1 v ta he ro fl) (ha : a < 13) : cr_B1 v (upd ta a x) (upd he a y) (upd ro a z) (upd fl a w) := by
  intro j hj
  obtain ⟨a1, a2, a3, a4, a5, a6, a7, a8⟩ := h j hj
  refine ⟨?_, ?_, ?_, ?_, ?_, ?_, ?_, ?_⟩ <;> rw [pk_un (by omega)] <;> assumption
/-- the arcs' edges -/
def cr_B2 (n : Nat) (fr to lo hi : Nat → Int32) (a : Nat) (ta he ro fl : Nat → Int32) : Prop := ∀ j, j < a → ta j = (if j < n then fr j else nI 0) ∧ he j = (if j < n then to j else nI 0) ∧ ro j = (if j < n then hi j - lo j else nI 0) ∧ fl j = nI 0
theorem cr_B2_step {n : Nat} {fr to lo hi : Nat → Int32} {a : Nat} {ta he ro fl : Nat → Int32} {x y z : Int32} (h : cr_B2 n fr to lo hi a ta he ro fl) (hx : x = if a < n then fr a else nI 0) (hy : y = if a < n then to a else nI 0) (hz : z = if a < n then hi a - lo a else nI 0) : cr_B2 n fr to lo hi (a + 1) (upd ta a x) (upd he a y) (upd ro a z) (upd fl a (nI 0)) := by
  intro j hj
  by_cases e : j = a
  · subst e
    rw [pk_us, pk_us, pk_us, pk_us]
    exact ⟨hx, hy, hz, rfl⟩
  · rw [pk_un e, pk_un e, pk_un e, pk_un e]
    exact h j (by omega)
theorem cr_B2_keep {n : Nat} {fr to lo hi : Nat → Int32} {ta he ro fl : Nat → Int32} {x y z w : Int32} (h : cr_B2 n fr to lo hi 12 ta he ro fl) : cr_B2 n fr to lo hi 12 (upd ta 12 x) (upd he 12 y) (upd ro 12 z) (upd fl 12 w) := by
  intro j hj
  rw [pk_un (by omega), pk_un (by omega), pk_un (by omega), pk_un (by omega)]
  exact h j hj
/-- the rooms, the vertices below v done -/
def cr_B3 (n : Nat) (fr to lo hi : Nat → Int32) (v : Nat) (ro : Nat → Int32) : Prop := (∀ j, j < 12 → ro j = (if j < n then hi j - lo j else nI 0)) ∧ ro 12 = nI 0 ∧ (∀ j, j < v → cr_i ro (13 + j) = cr_pos (cr_ov (cr_n fr) (cr_n to) (cr_i lo) j n) ∧ cr_i ro (19 + j) = cr_pos (- cr_ov (cr_n fr) (cr_n to) (cr_i lo) j n)) ∧ ∀ j, v ≤ j → j < 6 → ro (13 + j) = nI 0 ∧ ro (19 + j) = nI 0
theorem cr_B3_step {n : Nat} {fr to lo hi : Nat → Int32} {v : Nat} {ro : Nat → Int32} {k : Nat} {z : Int32} (h : cr_B3 n fr to lo hi v ro) (hv : v < 6) (hk : (k = 13 + v ∧ 0 < cr_ov (cr_n fr) (cr_n to) (cr_i lo) v n ∧ z.toInt = cr_ov (cr_n fr) (cr_n to) (cr_i lo) v n) ∨ (k = 19 + v ∧ ¬ 0 < cr_ov (cr_n fr) (cr_n to) (cr_i lo) v n ∧ z.toInt = - cr_ov (cr_n fr) (cr_n to) (cr_i lo) v n)) : cr_B3 n fr to lo hi (v + 1) (upd ro k z) := by
  obtain ⟨h1, h2, h3, h4⟩ := h
  have hk2 : k = 13 + v ∨ k = 19 + v := by
    rcases hk with q | q
    · exact Or.inl q.1
    · exact Or.inr q.1
  refine ⟨fun j hj => by rw [pk_un (by omega)]; exact h1 j hj, by rw [pk_un (by omega)]; exact h2, fun j hj => ?_, fun j hj hj6 => ?_⟩
  · show (upd ro k z (13 + j)).toInt = _ ∧ (upd ro k z (19 + j)).toInt = _
    by_cases e : j = v
    · subst e
      obtain ⟨g1, g2⟩ := h4 j (Nat.le_refl _) hv
      rcases hk with ⟨rfl, c1, c2⟩ | ⟨rfl, c1, c2⟩
      · rw [pk_us, pk_un (by omega), g2, c2]
        unfold cr_pos
        rw [if_pos c1, if_neg (by omega)]
        exact ⟨rfl, rfl⟩
      · rw [pk_us, pk_un (by omega), g1, c2]
        unfold cr_pos
        rw [if_neg c1]
        refine ⟨rfl, ?_⟩
        split <;> omega
    · rw [pk_un (by omega), pk_un (by omega)]
      exact h3 j (by omega)
  · rw [pk_un (by omega), pk_un (by omega)]
    exact h4 j (by omega) hj6
theorem cr_built {n : Nat} {fr to lo hi ta he ro r2 fl : Nat → Int32} (hA : cr_Arcs n fr to lo hi) (h1 : cr_B1 6 ta he ro fl) (h2 : cr_B2 n fr to lo hi 12 ta he ro fl) (h12 : ta 12 = nI 0 ∧ he 12 = nI 0 ∧ fl 12 = nI 0) (h3 : cr_B3 n fr to lo hi 6 r2) : cr_Bt n fr to lo hi ta he r2 0 0 0 ∧ ∀ e, e < 25 → fl e = 0 := by
  refine ⟨⟨fun a ha => ?_, fun a ha ha2 => ?_, ⟨h12.1, h12.2.1, ?_⟩, fun v hv => ?_, fun v hv => ?_⟩, cr_25 (fun a ha => (h2 a ha).2.2.2) h12.2.2 (fun v hv => (h1 v hv).2.2.2.1) (fun v hv => (h1 v hv).2.2.2.2.2.2.2)⟩
  · have h12' := hA.1
    obtain ⟨a1, a2, -⟩ := h2 a (by omega)
    have a3 := h3.1 a (by omega)
    rw [if_pos ha] at a1 a2 a3
    refine ⟨a1, a2, ?_⟩
    obtain ⟨-, -, -, -, -, b1, b2, b3⟩ := hA.2 a ha
    have b1 : 0 ≤ (lo a).toInt := b1
    have b2 : (lo a).toInt ≤ (hi a).toInt := b2
    have b3 : (hi a).toInt ≤ 20 := b3
    show (r2 a).toInt = _
    rw [a3, fb_subI (by omega) (by omega)]
  · obtain ⟨a1, a2, -⟩ := h2 a ha2
    have a3 := h3.1 a ha2
    rw [if_neg (by omega)] at a1 a2 a3
    refine ⟨a1, a2, ?_⟩
    show (r2 a).toInt = 0
    rw [a3]
    rfl
  · show (r2 12).toInt = 0
    rw [h3.2.1]
    rfl
  · obtain ⟨a1, a2, -⟩ := h1 v hv
    exact ⟨a1, a2, (h3.2.2.1 v hv).1⟩
  · obtain ⟨-, -, -, -, a1, a2, -⟩ := h1 v hv
    exact ⟨a1, a2, (h3.2.2.1 v hv).2⟩
theorem cr_B3_0 {n : Nat} {fr to lo hi ta he ro fl : Nat → Int32} (h1 : cr_B1 6 ta he ro fl) (h2 : cr_B2 n fr to lo hi 12 ta he ro fl) (h12 : ro 12 = nI 0) : cr_B3 n fr to lo hi 0 ro :=
  ⟨fun j hj => (h2 j hj).2.2.1, h12, fun j hj => absurd hj (Nat.not_lt_zero j), fun j _ hj => ⟨(h1 j hj).2.2.1, (h1 j hj).2.2.2.2.2.2.1⟩⟩
theorem cr_need_le {cnt : Nat} {fr to lo hi ta he ro : Nat → Int32} {x12 y12 : Nat} {r12 : Int} (hA : cr_Arcs cnt fr to lo hi) (hB : cr_Bt cnt fr to lo hi ta he ro x12 y12 r12) : cr_need ro ≤ 240 := by
  have h1 : cr_need ro ≤ fb_si (fun v => fb_si (fun a => if cr_n to a = v then cr_i lo a else 0) cnt) 6 := by
    refine cr_si_le (fun v hv => ?_)
    rw [(hB.2.2.2.1 v hv).2.2]
    have q : cr_ov (cr_n fr) (cr_n to) (cr_i lo) v cnt ≤ fb_si (fun a => if cr_n to a = v then cr_i lo a else 0) cnt := by
      refine cr_si_le (fun a ha => ?_)
      have := (hA.2 a ha).2.2.2.2.2.1
      by_cases c : cr_n fr a = v
      · rw [if_pos c]; omega
      · rw [if_neg c]; omega
    have q2 : 0 ≤ fb_si (fun a => if cr_n to a = v then cr_i lo a else 0) cnt := cr_si_nn (fun a ha => by
      have := (hA.2 a ha).2.2.2.2.2.1
      by_cases c : cr_n to a = v
      · rw [if_pos c]; exact this
      · rw [if_neg c]; exact Int.le_refl _)
    unfold cr_pos
    split <;> omega
  rw [cr_si_swap] at h1
  have h2 : fb_si (fun a => fb_si (fun v => if cr_n to a = v then cr_i lo a else 0) 6) cnt = fb_si (fun a => cr_i lo a) cnt := fb_si_cong (fun a ha => cr_si_pick (fun _ => cr_i lo a) (hA.2 a ha).2.2.2.1)
  have h3 := fb_si_bound (f := fun a => cr_i lo a) (c := 20) (by decide) (n := cnt) (fun a ha => by have := (hA.2 a ha).2.2.2.2.2; omega)
  have h4 := hA.1
  rw [h2] at h1
  omega
end
section
/-! MODULE CirculationRange: build -/
set_option maxHeartbeats 4000000 in
set_option maxRecDepth 100000 in
/-- edges from the source and to the sink -/
theorem lpX0_build_2 {p : Program} {l : Launch} {env : Env} {s : State} {m : MethodId} {args : Array Value} {below : List Frame} {meth : Method} {c : Code} {Q : State → Prop} {D : va_G} {d : ClassId} {h : Nat → Nat} {A : Nat → Prop} (hx : p.tables.exec = Jvm.exec) (hb : c.code = cX0_build) (hml : c.maxLocals = 4) (hown : s.vm.findClass RX0 = some m.cls) (hts : ∀ w ∈ lw_all, w.before args s = true) (hA : ∀ q, s.heap.size ≤ q → A q) (hK : va_K D vwCl [(d, .int)] s) (cnt nd sn : Int32) (fr to lo hi bY qu : Nat → Int32)
    (K : ∀ (ta he ro fl : Nat → Int32) (H : Heap) (locs : List Loc) (ls : Array Slot), (cr_B1 6 ta he ro fl) → va_P D vwCl (xw d h cnt nd sn fr to lo hi ta he ro fl bY qu) H → va_D A (xw d h cnt nd sn fr to lo hi ta he ro fl bY qu) → va_S A s.heap H locs → lv_has ls 4 [(1, .int (nI 6)), (0, .ref (h 0))] → W p l env ({ frames := 1, cells := 0, slots := 0, locals := 24 } : Room) s m args below meth c H locs 0 0 Q (F0 m 38 ls []))
    : ∀ (n : Nat) (v : Nat) (ta he ro fl : Nat → Int32) (H : Heap) (locs : List Loc) (ls : Array Slot), (v ≤ 6) → (7 ≤ v + n) → (cr_B1 v ta he ro fl) → va_P D vwCl (xw d h cnt nd sn fr to lo hi ta he ro fl bY qu) H → va_D A (xw d h cnt nd sn fr to lo hi ta he ro fl bY qu) → va_S A s.heap H locs → lv_has ls 4 [(1, .int (nI v)), (0, .ref (h 0))] → W p l env ({ frames := 1, cells := 0, slots := 0, locals := 24 } : Room) s m args below meth c H locs 0 0 Q (F0 m 2 ls []) := by
  intro n
  induction n with
  | zero =>
    intro v ta he ro fl H locs ls h1 h2 h3
    exfalso
    omega
  | succ n ih =>
    intro v ta he ro fl H locs ls h1 h2 h3 hP hD hS hl
    refine lv_iload_n hx hb dX0_build_2 rfl (lv_at hl 0 rfl) ?_
    refine lv_bipush (v := (nI 6)) hx hb dX0_build_3 (by decide) ?_
    refine lv_icmp_ge (tgt := 38) hx hb dX0_build_5 (by decide) (fun c1 => ?_) (fun c1 => ?_)
    · have q : v = 6 := by have := cr_le (by omega) (by omega) c1; omega
      subst q
      exact K ta he ro fl H locs ls h3 hP hD hS hl
    · have q : v < 6 := cr_nle (by omega) (by omega) c1
      refine lv_aload_n hx hb dX0_build_8 rfl (lv_at hl 1 rfl) ?_
      refine lv_bipush (v := (nI 13)) hx hb dX0_build_9 (by decide) ?_
      refine lv_iload_n hx hb dX0_build_11 rfl (lv_at hl 0 rfl) ?_
      refine lv_iadd hx hb dX0_build_12 ?_
      refine lv_topi (fun y9 ey9 => ?_)
      obtain rfl : y9 = nI (13 + v) := ey9.trans (nI_add 13 v)
      refine lv_bipush (v := (nI 6)) hx hb dX0_build_13 (by decide) ?_
      refine lv_iload_n hx hb dX0_build_15 rfl (lv_at hl 0 rfl) ?_
      refine lv_iconst (v := (nI 0)) hx hb dX0_build_16 (by decide) ?_
      refine cr_selfv (As := [.int (nI (13 + v)), .int (nI 6), .int (nI v), .int (nI 0)]) (rest := []) ⟨hx, hb, hml, hown, hts⟩ (metX0_setEdge l D d h H.size cnt nd sn fr to lo hi ta he ro fl bY qu (13 + v) (nI 6) (nI v) (nI 0) (by omega)) (cwV 4 hts (lw_V q98 q100 qs2 q16 q101) rfl rfl rfl (by decide +kernel) ⟨Nat.le_of_ble_eq_true rfl, Nat.le_of_ble_eq_true rfl⟩) hK hP hD hS hA (ci := 0) rfl rfl rfl hl.1 rfl (Nat.le_of_ble_eq_true rfl) dX0_build_17 ⟨Nat.le_refl _, Nat.le_refl _⟩ (fun u H locs hw hP hD hS => ?_)
      have hP : va_P D vwCl (xw d h cnt nd sn fr to lo hi (upd ta (13 + v) (nI 6)) (upd he (13 + v) (nI v)) (upd ro (13 + v) (nI 0)) (upd fl (13 + v) (nI 0)) bY qu) H := hP
      have hD : va_D A (xw d h cnt nd sn fr to lo hi (upd ta (13 + v) (nI 6)) (upd he (13 + v) (nI v)) (upd ro (13 + v) (nI 0)) (upd fl (13 + v) (nI 0)) bY qu) := hD
      refine lv_aload_n hx hb dX0_build_20 rfl (lv_at hl 1 rfl) ?_
      refine lv_bipush (v := (nI 19)) hx hb dX0_build_21 (by decide) ?_
      refine lv_iload_n hx hb dX0_build_23 rfl (lv_at hl 0 rfl) ?_
      refine lv_iadd hx hb dX0_build_24 ?_
      refine lv_topi (fun y9 ey9 => ?_)
      obtain rfl : y9 = nI (19 + v) := ey9.trans (nI_add 19 v)
      refine lv_iload_n hx hb dX0_build_25 rfl (lv_at hl 0 rfl) ?_
      refine lv_bipush (v := (nI 7)) hx hb dX0_build_26 (by decide) ?_
      refine lv_iconst (v := (nI 0)) hx hb dX0_build_28 (by decide) ?_
      refine cr_selfv (As := [.int (nI (19 + v)), .int (nI v), .int (nI 7), .int (nI 0)]) (rest := []) ⟨hx, hb, hml, hown, hts⟩ (metX0_setEdge l D d h H.size cnt nd sn fr to lo hi (upd ta (13 + v) (nI 6)) (upd he (13 + v) (nI v)) (upd ro (13 + v) (nI 0)) (upd fl (13 + v) (nI 0)) bY qu (19 + v) (nI v) (nI 7) (nI 0) (by omega)) (cwV 4 hts (lw_V q98 q100 qs2 q16 q101) rfl rfl rfl (by decide +kernel) ⟨Nat.le_of_ble_eq_true rfl, Nat.le_of_ble_eq_true rfl⟩) hK hP hD hS hA (ci := 0) rfl rfl rfl hl.1 rfl (Nat.le_of_ble_eq_true rfl) dX0_build_29 ⟨Nat.le_refl _, Nat.le_refl _⟩ (fun u H locs hw hP hD hS => ?_)
      have hP : va_P D vwCl (xw d h cnt nd sn fr to lo hi (upd (upd ta (13 + v) (nI 6)) (19 + v) (nI v)) (upd (upd he (13 + v) (nI v)) (19 + v) (nI 7)) (upd (upd ro (13 + v) (nI 0)) (19 + v) (nI 0)) (upd (upd fl (13 + v) (nI 0)) (19 + v) (nI 0)) bY qu) H := hP
      have hD : va_D A (xw d h cnt nd sn fr to lo hi (upd (upd ta (13 + v) (nI 6)) (19 + v) (nI v)) (upd (upd he (13 + v) (nI v)) (19 + v) (nI 7)) (upd (upd ro (13 + v) (nI 0)) (19 + v) (nI 0)) (upd (upd fl (13 + v) (nI 0)) (19 + v) (nI 0)) bY qu) := hD
      refine lv_iinc (v := (nI (v + 1))) (lv' := [(1, .int (nI (v + 1))), (0, .ref (h 0))]) hx hb dX0_build_32 hl (k := 0) rfl (cr_inc v) (by decide) rfl (fun ls hl => ?_)
      refine lv_goto (tgt := 2) hx hb dX0_build_35 (by decide) ?_
      exact ih (v + 1) _ _ _ _ H locs ls q (by omega) (cr_B1_step h3 q) hP hD hS hl
set_option maxHeartbeats 4000000 in
set_option maxRecDepth 100000 in
/-- the arcs -/
theorem lpX0_build_40 {p : Program} {l : Launch} {env : Env} {s : State} {m : MethodId} {args : Array Value} {below : List Frame} {meth : Method} {c : Code} {Q : State → Prop} {D : va_G} {d : ClassId} {h : Nat → Nat} {A : Nat → Prop} (hx : p.tables.exec = Jvm.exec) (hb : c.code = cX0_build) (hml : c.maxLocals = 4) (hown : s.vm.findClass RX0 = some m.cls) (hts : ∀ w ∈ lw_all, w.before args s = true) (hA : ∀ q, s.heap.size ≤ q → A q) (hK : va_K D vwCl [(d, .int)] s) (cnt nd sn : Int32) (fr to lo hi bY qu : Nat → Int32) (cn : Nat) (hcn : cnt = nI cn) (hcn2 : cn ≤ 12)
    (K : ∀ (ta he ro fl : Nat → Int32) (H : Heap) (locs : List Loc) (ls : Array Slot), (cr_B1 6 ta he ro fl) → (cr_B2 cn fr to lo hi 12 ta he ro fl) → va_P D vwCl (xw d h cnt nd sn fr to lo hi ta he ro fl bY qu) H → va_D A (xw d h cnt nd sn fr to lo hi ta he ro fl bY qu) → va_S A s.heap H locs → lv_has ls 4 [(1, .int (nI 12)), (0, .ref (h 0))] → W p l env ({ frames := 1, cells := 0, slots := 0, locals := 24 } : Room) s m args below meth c H locs 0 0 Q (F0 m 120 ls []))
    : ∀ (n : Nat) (a : Nat) (ta he ro fl : Nat → Int32) (H : Heap) (locs : List Loc) (ls : Array Slot), (a ≤ 12) → (13 ≤ a + n) → (cr_B1 6 ta he ro fl) → (cr_B2 cn fr to lo hi a ta he ro fl) → va_P D vwCl (xw d h cnt nd sn fr to lo hi ta he ro fl bY qu) H → va_D A (xw d h cnt nd sn fr to lo hi ta he ro fl bY qu) → va_S A s.heap H locs → lv_has ls 4 [(1, .int (nI a)), (0, .ref (h 0))] → W p l env ({ frames := 1, cells := 0, slots := 0, locals := 24 } : Room) s m args below meth c H locs 0 0 Q (F0 m 40 ls []) := by
  intro n
  induction n with
  | zero =>
    intro a ta he ro fl H locs ls h1 h2 h3 h4
    exfalso
    omega
  | succ n ih =>
    intro a ta he ro fl H locs ls h1 h2 h3 h4 hP hD hS hl
    refine lv_iload_n hx hb dX0_build_40 rfl (lv_at hl 0 rfl) ?_
    refine lv_bipush (v := (nI 12)) hx hb dX0_build_41 (by decide) ?_
    refine lv_icmp_ge (tgt := 120) hx hb dX0_build_43 (by decide) (fun c1 => ?_) (fun c1 => ?_)
    · have q : a = 12 := by have := cr_le (by omega) (by omega) c1; omega
      subst q
      exact K ta he ro fl H locs ls h3 h4 hP hD hS hl
    · have q : a < 12 := cr_nle (by omega) (by omega) c1
      refine lv_iload_n hx hb dX0_build_46 rfl (lv_at hl 0 rfl) ?_
      refine lv_aload_n hx hb dX0_build_47 rfl (lv_at hl 1 rfl) ?_
      refine va_get (D := D) (ci := 0) (v := .int cnt) (C := RX0) (T := TX0) (N := 13) hx hb hts in_X0 hown hK hP 0 rfl rfl 0 (by decide) (hts _ q26) (fun _ h9 => h9) rfl dX0_build_48 ?_
      refine lv_icmp_ge (tgt := 58) hx hb dX0_build_51 (by decide) (fun c2 => ?_) (fun c2 => ?_)
      · have q2 : ¬ a < cn := by rw [hcn] at c2; have := cr_le (by omega) (by omega) c2; omega
        refine lv_iconst (v := (nI 0)) hx hb dX0_build_58 (by decide) ?_
        refine lv_istore_n (lv' := [(2, .int (nI 0)), (1, .int (nI a)), (0, .ref (h 0))]) hx hb dX0_build_59 rfl hl (by decide) rfl (fun ls hl => ?_)
        refine lv_aload_n hx hb dX0_build_60 rfl (lv_at hl 2 rfl) ?_
        refine lv_iload_n hx hb dX0_build_61 rfl (lv_at hl 1 rfl) ?_
        refine lv_iload_n hx hb dX0_build_62 rfl (lv_at hl 0 rfl) ?_
        refine lv_if_eq (tgt := 75) hx hb dX0_build_63 (by decide) (fun c3 => ?_) (fun c3 => ?_)
        · refine lv_iconst (v := (nI 0)) hx hb dX0_build_75 (by decide) ?_
          refine lv_iload_n hx hb dX0_build_76 rfl (lv_at hl 0 rfl) ?_
          refine lv_if_eq (tgt := 89) hx hb dX0_build_77 (by decide) (fun c4 => ?_) (fun c4 => ?_)
          · refine lv_iconst (v := (nI 0)) hx hb dX0_build_89 (by decide) ?_
            refine lv_iload_n hx hb dX0_build_90 rfl (lv_at hl 0 rfl) ?_
            refine lv_if_eq (tgt := 110) hx hb dX0_build_91 (by decide) (fun c5 => ?_) (fun c5 => ?_)
            · refine lv_iconst (v := (nI 0)) hx hb dX0_build_110 (by decide) ?_
              refine cr_selfv (As := [.int (nI a), .int (nI 0), .int (nI 0), .int (nI 0)]) (rest := []) ⟨hx, hb, hml, hown, hts⟩ (metX0_setEdge l D d h H.size cnt nd sn fr to lo hi ta he ro fl bY qu a (nI 0) (nI 0) (nI 0) (by omega)) (cwV 4 hts (lw_V q98 q100 qs2 q16 q101) rfl rfl rfl (by decide +kernel) ⟨Nat.le_of_ble_eq_true rfl, Nat.le_of_ble_eq_true rfl⟩) hK hP hD hS hA (ci := 0) rfl rfl rfl hl.1 rfl (Nat.le_of_ble_eq_true rfl) dX0_build_111 ⟨Nat.le_refl _, Nat.le_refl _⟩ (fun u H locs hw hP hD hS => ?_)
              have hP : va_P D vwCl (xw d h cnt nd sn fr to lo hi (upd ta a (nI 0)) (upd he a (nI 0)) (upd ro a (nI 0)) (upd fl a (nI 0)) bY qu) H := hP
              have hD : va_D A (xw d h cnt nd sn fr to lo hi (upd ta a (nI 0)) (upd he a (nI 0)) (upd ro a (nI 0)) (upd fl a (nI 0)) bY qu) := hD
              refine lv_iinc (v := (nI (a + 1))) (lv' := [(1, .int (nI (a + 1))), (2, .int (nI 0)), (0, .ref (h 0))]) hx hb dX0_build_114 hl (k := 1) rfl (cr_inc a) (by decide) rfl (fun ls hl => ?_)
              refine lv_goto (tgt := 40) hx hb dX0_build_117 (by decide) ?_
              exact ih (a + 1) _ _ _ _ H locs ls q (by omega) (cr_B1_keep h3 (by omega)) (cr_B2_step h4 (if_neg q2).symm (if_neg q2).symm (if_neg q2).symm) hP hD hS (lv_sub hl [0, 2] rfl)
            · exact absurd rfl c5
          · exact absurd rfl c4
        · exact absurd rfl c3
      · have q2 : a < cn := by rw [hcn] at c2; exact cr_nle (by omega) (by omega) c2
        refine lv_iconst (v := (nI 1)) hx hb dX0_build_54 (by decide) ?_
        refine lv_goto (tgt := 59) hx hb dX0_build_55 (by decide) ?_
        refine lv_istore_n (lv' := [(2, .int (nI 1)), (1, .int (nI a)), (0, .ref (h 0))]) hx hb dX0_build_59 rfl hl (by decide) rfl (fun ls hl => ?_)
        refine lv_aload_n hx hb dX0_build_60 rfl (lv_at hl 2 rfl) ?_
        refine lv_iload_n hx hb dX0_build_61 rfl (lv_at hl 1 rfl) ?_
        refine lv_iload_n hx hb dX0_build_62 rfl (lv_at hl 0 rfl) ?_
        refine lv_if_eq (tgt := 75) hx hb dX0_build_63 (by decide) (fun c3 => ?_) (fun c3 => ?_)
        · exact absurd c3 cr_1ne
        · refine lv_aload_n hx hb dX0_build_66 rfl (lv_at hl 2 rfl) ?_
          refine va_get (D := D) (ci := 0) (v := .ref (h 1)) (C := RX0) (T := TX0) (N := 13) hx hb hts in_X0 hown hK hP 0 rfl rfl 1 (by decide) (hts _ q27) (fun _ h9 => h9) rfl dX0_build_67 ?_
          refine lv_iload_n hx hb dX0_build_70 rfl (lv_at hl 1 rfl) ?_
          refine va_iald hx hb hK hP 1 0 rfl rfl (vp_in_nI (show a < 12 by omega) (by decide)) dX0_build_71 ?_
          refine lv_topi (fun y9 ey9 => ?_)
          obtain rfl : y9 = fr a := ey9.trans (congrArg fr (nI_clamp (show a < 2 ^ 31 by omega)))
          refine lv_goto (tgt := 76) hx hb dX0_build_72 (by decide) ?_
          refine lv_iload_n hx hb dX0_build_76 rfl (lv_at hl 0 rfl) ?_
          refine lv_if_eq (tgt := 89) hx hb dX0_build_77 (by decide) (fun c4 => ?_) (fun c4 => ?_)
          · exact absurd c4 cr_1ne
          · refine lv_aload_n hx hb dX0_build_80 rfl (lv_at hl 2 rfl) ?_
            refine va_get (D := D) (ci := 0) (v := .ref (h 2)) (C := RX0) (T := TX0) (N := 13) hx hb hts in_X0 hown hK hP 0 rfl rfl 2 (by decide) (hts _ q28) (fun _ h9 => h9) rfl dX0_build_81 ?_
            refine lv_iload_n hx hb dX0_build_84 rfl (lv_at hl 1 rfl) ?_
            refine va_iald hx hb hK hP 2 0 rfl rfl (vp_in_nI (show a < 12 by omega) (by decide)) dX0_build_85 ?_
            refine lv_topi (fun y9 ey9 => ?_)
            obtain rfl : y9 = to a := ey9.trans (congrArg to (nI_clamp (show a < 2 ^ 31 by omega)))
            refine lv_goto (tgt := 90) hx hb dX0_build_86 (by decide) ?_
            refine lv_iload_n hx hb dX0_build_90 rfl (lv_at hl 0 rfl) ?_
            refine lv_if_eq (tgt := 110) hx hb dX0_build_91 (by decide) (fun c5 => ?_) (fun c5 => ?_)
            · exact absurd c5 cr_1ne
            · refine lv_aload_n hx hb dX0_build_94 rfl (lv_at hl 2 rfl) ?_
              refine va_get (D := D) (ci := 0) (v := .ref (h 4)) (C := RX0) (T := TX0) (N := 13) hx hb hts in_X0 hown hK hP 0 rfl rfl 4 (by decide) (hts _ q30) (fun _ h9 => h9) rfl dX0_build_95 ?_
              refine lv_iload_n hx hb dX0_build_98 rfl (lv_at hl 1 rfl) ?_
              refine va_iald hx hb hK hP 4 0 rfl rfl (vp_in_nI (show a < 12 by omega) (by decide)) dX0_build_99 ?_
              refine lv_topi (fun y9 ey9 => ?_)
              obtain rfl : y9 = hi a := ey9.trans (congrArg hi (nI_clamp (show a < 2 ^ 31 by omega)))
              refine lv_aload_n hx hb dX0_build_100 rfl (lv_at hl 2 rfl) ?_
              refine va_get (D := D) (ci := 0) (v := .ref (h 3)) (C := RX0) (T := TX0) (N := 13) hx hb hts in_X0 hown hK hP 0 rfl rfl 3 (by decide) (hts _ q29) (fun _ h9 => h9) rfl dX0_build_101 ?_
              refine lv_iload_n hx hb dX0_build_104 rfl (lv_at hl 1 rfl) ?_
              refine va_iald hx hb hK hP 3 0 rfl rfl (vp_in_nI (show a < 12 by omega) (by decide)) dX0_build_105 ?_
              refine lv_topi (fun y9 ey9 => ?_)
              obtain rfl : y9 = lo a := ey9.trans (congrArg lo (nI_clamp (show a < 2 ^ 31 by omega)))
              refine lv_isub hx hb dX0_build_106 ?_
              refine lv_goto (tgt := 111) hx hb dX0_build_107 (by decide) ?_
              refine cr_selfv (As := [.int (nI a), .int (fr a), .int (to a), .int ((hi a) - (lo a))]) (rest := []) ⟨hx, hb, hml, hown, hts⟩ (metX0_setEdge l D d h H.size cnt nd sn fr to lo hi ta he ro fl bY qu a (fr a) (to a) (hi a - lo a) (by omega)) (cwV 4 hts (lw_V q98 q100 qs2 q16 q101) rfl rfl rfl (by decide +kernel) ⟨Nat.le_of_ble_eq_true rfl, Nat.le_of_ble_eq_true rfl⟩) hK hP hD hS hA (ci := 0) rfl rfl rfl hl.1 rfl (Nat.le_of_ble_eq_true rfl) dX0_build_111 ⟨Nat.le_refl _, Nat.le_refl _⟩ (fun u H locs hw hP hD hS => ?_)
              have hP : va_P D vwCl (xw d h cnt nd sn fr to lo hi (upd ta a (fr a)) (upd he a (to a)) (upd ro a (hi a - lo a)) (upd fl a (nI 0)) bY qu) H := hP
              have hD : va_D A (xw d h cnt nd sn fr to lo hi (upd ta a (fr a)) (upd he a (to a)) (upd ro a (hi a - lo a)) (upd fl a (nI 0)) bY qu) := hD
              refine lv_iinc (v := (nI (a + 1))) (lv' := [(1, .int (nI (a + 1))), (2, .int (nI 1)), (0, .ref (h 0))]) hx hb dX0_build_114 hl (k := 1) rfl (cr_inc a) (by decide) rfl (fun ls hl => ?_)
              refine lv_goto (tgt := 40) hx hb dX0_build_117 (by decide) ?_
              exact ih (a + 1) _ _ _ _ H locs ls q (by omega) (cr_B1_keep h3 (by omega)) (cr_B2_step h4 (if_pos q2).symm (if_pos q2).symm (if_pos q2).symm) hP hD hS (lv_sub hl [0, 2] rfl)
set_option maxHeartbeats 4000000 in
set_option maxRecDepth 100000 in
/-- what a vertex has over -/
theorem lpX0_build_141 {p : Program} {l : Launch} {env : Env} {s : State} {m : MethodId} {args : Array Value} {below : List Frame} {meth : Method} {c : Code} {Q : State → Prop} {D : va_G} {d : ClassId} {h : Nat → Nat} {A : Nat → Prop} (hx : p.tables.exec = Jvm.exec) (hb : c.code = cX0_build) (hml : c.maxLocals = 4) (hown : s.vm.findClass RX0 = some m.cls) (hts : ∀ w ∈ lw_all, w.before args s = true) (hA : ∀ q, s.heap.size ≤ q → A q) (hK : va_K D vwCl [(d, .int)] s) (cnt nd sn : Int32) (fr to lo hi ta he ro fl bY qu : Nat → Int32) (cn : Nat) (hcn : cnt = nI cn) (hAr : cr_Arcs cn fr to lo hi) (v : Nat) (hv : v < 6)
    (K : ∀ (ov : Int32) (H : Heap) (locs : List Loc) (ls : Array Slot), (ov.toInt = cr_ov (cr_n fr) (cr_n to) (cr_i lo) v cn) → va_P D vwCl (xw d h cnt nd sn fr to lo hi ta he ro fl bY qu) H → va_D A (xw d h cnt nd sn fr to lo hi ta he ro fl bY qu) → va_S A s.heap H locs → lv_has ls 4 [(3, .int (nI cn)), (2, .int ov), (1, .int (nI v)), (0, .ref (h 0))] → W p l env ({ frames := 1, cells := 0, slots := 0, locals := 24 } : Room) s m args below meth c H locs 0 0 Q (F0 m 193 ls []))
    : ∀ (n : Nat) (a : Nat) (ov : Int32) (H : Heap) (locs : List Loc) (ls : Array Slot), (a ≤ cn) → (cn + 1 ≤ a + n) → (ov.toInt = cr_ov (cr_n fr) (cr_n to) (cr_i lo) v a) → va_P D vwCl (xw d h cnt nd sn fr to lo hi ta he ro fl bY qu) H → va_D A (xw d h cnt nd sn fr to lo hi ta he ro fl bY qu) → va_S A s.heap H locs → lv_has ls 4 [(3, .int (nI a)), (2, .int ov), (1, .int (nI v)), (0, .ref (h 0))] → W p l env ({ frames := 1, cells := 0, slots := 0, locals := 24 } : Room) s m args below meth c H locs 0 0 Q (F0 m 141 ls []) := by
  intro n
  induction n with
  | zero =>
    intro a ov H locs ls h1 h2 h3
    exfalso
    omega
  | succ n ih =>
    intro a ov H locs ls h1 h2 h3 hP hD hS hl
    have hc12 := hAr.1
    refine lv_iload_n hx hb dX0_build_141 rfl (lv_at hl 0 rfl) ?_
    refine lv_aload_n hx hb dX0_build_142 rfl (lv_at hl 3 rfl) ?_
    refine va_get (D := D) (ci := 0) (v := .int cnt) (C := RX0) (T := TX0) (N := 13) hx hb hts in_X0 hown hK hP 0 rfl rfl 0 (by decide) (hts _ q26) (fun _ h9 => h9) rfl dX0_build_143 ?_
    refine lv_icmp_ge (tgt := 193) hx hb dX0_build_146 (by decide) (fun c1 => ?_) (fun c1 => ?_)
    · have q : a = cn := by rw [hcn] at c1; have := cr_le (by omega) (by omega) c1; omega
      subst q
      exact K ov H locs ls h3 hP hD hS hl
    · have q : a < cn := by rw [hcn] at c1; exact cr_nle (by omega) (by omega) c1
      have hrn : -240 ≤ cr_ov (cr_n fr) (cr_n to) (cr_i lo) v a ∧ cr_ov (cr_n fr) (cr_n to) (cr_i lo) v a ≤ 240 := cr_ov_rng (by omega) (fun j hj => by have := hAr.2 j (by omega); omega)
      obtain ⟨g1, g2, g3, g4, g5, g6, g7, g8⟩ := hAr.2 a q
      have g6 : 0 ≤ (lo a).toInt := g6
      have g9 : (lo a).toInt ≤ 20 := by have : (lo a).toInt ≤ cr_i hi a := g7; omega
      have hlo : cr_i lo a = (lo a).toInt := rfl
      have hsu : cr_ov (cr_n fr) (cr_n to) (cr_i lo) v (a + 1) = cr_ov (cr_n fr) (cr_n to) (cr_i lo) v a + ((if cr_n to a = v then cr_i lo a else 0) - (if cr_n fr a = v then cr_i lo a else 0)) := rfl
      refine lv_aload_n hx hb dX0_build_149 rfl (lv_at hl 3 rfl) ?_
      refine va_get (D := D) (ci := 0) (v := .ref (h 2)) (C := RX0) (T := TX0) (N := 13) hx hb hts in_X0 hown hK hP 0 rfl rfl 2 (by decide) (hts _ q28) (fun _ h9 => h9) rfl dX0_build_150 ?_
      refine lv_iload_n hx hb dX0_build_153 rfl (lv_at hl 0 rfl) ?_
      refine va_iald hx hb hK hP 2 0 rfl rfl (vp_in_nI (show a < 12 by omega) (by decide)) dX0_build_154 ?_
      refine lv_topi (fun y9 ey9 => ?_)
      obtain rfl : y9 = to a := ey9.trans (congrArg to (nI_clamp (show a < 2 ^ 31 by omega)))
      refine lv_iload_n hx hb dX0_build_155 rfl (lv_at hl 2 rfl) ?_
      refine lv_icmp_ne (tgt := 168) hx hb dX0_build_156 (by decide) (fun c2 => ?_) (fun c2 => ?_)
      · have k1 : ¬ cr_n to a = v := fun e => c2 (by rw [g2, e])
        refine lv_aload_n hx hb dX0_build_168 rfl (lv_at hl 3 rfl) ?_
        refine va_get (D := D) (ci := 0) (v := .ref (h 1)) (C := RX0) (T := TX0) (N := 13) hx hb hts in_X0 hown hK hP 0 rfl rfl 1 (by decide) (hts _ q27) (fun _ h9 => h9) rfl dX0_build_169 ?_
        refine lv_iload_n hx hb dX0_build_172 rfl (lv_at hl 0 rfl) ?_
        refine va_iald hx hb hK hP 1 0 rfl rfl (vp_in_nI (show a < 12 by omega) (by decide)) dX0_build_173 ?_
        refine lv_topi (fun y9 ey9 => ?_)
        obtain rfl : y9 = fr a := ey9.trans (congrArg fr (nI_clamp (show a < 2 ^ 31 by omega)))
        refine lv_iload_n hx hb dX0_build_174 rfl (lv_at hl 2 rfl) ?_
        refine lv_icmp_ne (tgt := 187) hx hb dX0_build_175 (by decide) (fun c3 => ?_) (fun c3 => ?_)
        · have k2 : ¬ cr_n fr a = v := fun e => c3 (by rw [g1, e])
          refine lv_iinc (v := (nI (a + 1))) (lv' := [(3, .int (nI (a + 1))), (2, .int ov), (1, .int (nI v)), (0, .ref (h 0))]) hx hb dX0_build_187 hl (k := 0) rfl (cr_inc a) (by decide) rfl (fun ls hl => ?_)
          refine lv_goto (tgt := 141) hx hb dX0_build_190 (by decide) ?_
          exact ih (a + 1) _ H locs ls q (by omega) (by rw [hsu, if_neg k1, if_neg k2]; omega) hP hD hS (lv_sub hl [0, 1, 2, 3] rfl)
        · have k2 : cr_n fr a = v := cr_eq (by omega) (by omega) (g1.symm.trans c3)
          refine lv_iload_n hx hb dX0_build_178 rfl (lv_at hl 1 rfl) ?_
          refine lv_aload_n hx hb dX0_build_179 rfl (lv_at hl 3 rfl) ?_
          refine va_get (D := D) (ci := 0) (v := .ref (h 3)) (C := RX0) (T := TX0) (N := 13) hx hb hts in_X0 hown hK hP 0 rfl rfl 3 (by decide) (hts _ q29) (fun _ h9 => h9) rfl dX0_build_180 ?_
          refine lv_iload_n hx hb dX0_build_183 rfl (lv_at hl 0 rfl) ?_
          refine va_iald hx hb hK hP 3 0 rfl rfl (vp_in_nI (show a < 12 by omega) (by decide)) dX0_build_184 ?_
          refine lv_topi (fun y9 ey9 => ?_)
          obtain rfl : y9 = lo a := ey9.trans (congrArg lo (nI_clamp (show a < 2 ^ 31 by omega)))
          refine lv_isub hx hb dX0_build_185 ?_
          refine lv_topi (fun o2 eo2 => ?_)
          have ho2 : o2.toInt = ov.toInt - (lo a).toInt := by rw [eo2, fb_subI (by omega) (by omega)]
          refine lv_istore_n (lv' := [(2, .int o2), (3, .int (nI a)), (1, .int (nI v)), (0, .ref (h 0))]) hx hb dX0_build_186 rfl hl (by decide) rfl (fun ls hl => ?_)
          refine lv_iinc (v := (nI (a + 1))) (lv' := [(3, .int (nI (a + 1))), (2, .int o2), (1, .int (nI v)), (0, .ref (h 0))]) hx hb dX0_build_187 hl (k := 1) rfl (cr_inc a) (by decide) rfl (fun ls hl => ?_)
          refine lv_goto (tgt := 141) hx hb dX0_build_190 (by decide) ?_
          exact ih (a + 1) o2 H locs ls q (by omega) (by rw [hsu, if_neg k1, if_pos k2, ho2]; show _ = _ + (_ - (lo a).toInt); omega) hP hD hS (lv_sub hl [0, 1, 2, 3] rfl)
      · have k1 : cr_n to a = v := cr_eq (by omega) (by omega) (g2.symm.trans c2)
        refine lv_iload_n hx hb dX0_build_159 rfl (lv_at hl 1 rfl) ?_
        refine lv_aload_n hx hb dX0_build_160 rfl (lv_at hl 3 rfl) ?_
        refine va_get (D := D) (ci := 0) (v := .ref (h 3)) (C := RX0) (T := TX0) (N := 13) hx hb hts in_X0 hown hK hP 0 rfl rfl 3 (by decide) (hts _ q29) (fun _ h9 => h9) rfl dX0_build_161 ?_
        refine lv_iload_n hx hb dX0_build_164 rfl (lv_at hl 0 rfl) ?_
        refine va_iald hx hb hK hP 3 0 rfl rfl (vp_in_nI (show a < 12 by omega) (by decide)) dX0_build_165 ?_
        refine lv_topi (fun y9 ey9 => ?_)
        obtain rfl : y9 = lo a := ey9.trans (congrArg lo (nI_clamp (show a < 2 ^ 31 by omega)))
        refine lv_iadd hx hb dX0_build_166 ?_
        refine lv_topi (fun o1 eo1 => ?_)
        have ho1 : o1.toInt = ov.toInt + (lo a).toInt := by rw [eo1, fb_addI (by omega) (by omega)]
        refine lv_istore_n (lv' := [(2, .int o1), (3, .int (nI a)), (1, .int (nI v)), (0, .ref (h 0))]) hx hb dX0_build_167 rfl hl (by decide) rfl (fun ls hl => ?_)
        refine lv_aload_n hx hb dX0_build_168 rfl (lv_at hl 3 rfl) ?_
        refine va_get (D := D) (ci := 0) (v := .ref (h 1)) (C := RX0) (T := TX0) (N := 13) hx hb hts in_X0 hown hK hP 0 rfl rfl 1 (by decide) (hts _ q27) (fun _ h9 => h9) rfl dX0_build_169 ?_
        refine lv_iload_n hx hb dX0_build_172 rfl (lv_at hl 1 rfl) ?_
        refine va_iald hx hb hK hP 1 0 rfl rfl (vp_in_nI (show a < 12 by omega) (by decide)) dX0_build_173 ?_
        refine lv_topi (fun y9 ey9 => ?_)
        obtain rfl : y9 = fr a := ey9.trans (congrArg fr (nI_clamp (show a < 2 ^ 31 by omega)))
        refine lv_iload_n hx hb dX0_build_174 rfl (lv_at hl 2 rfl) ?_
        refine lv_icmp_ne (tgt := 187) hx hb dX0_build_175 (by decide) (fun c3 => ?_) (fun c3 => ?_)
        · have k2 : ¬ cr_n fr a = v := fun e => c3 (by rw [g1, e])
          refine lv_iinc (v := (nI (a + 1))) (lv' := [(3, .int (nI (a + 1))), (2, .int o1), (1, .int (nI v)), (0, .ref (h 0))]) hx hb dX0_build_187 hl (k := 1) rfl (cr_inc a) (by decide) rfl (fun ls hl => ?_)
          refine lv_goto (tgt := 141) hx hb dX0_build_190 (by decide) ?_
          exact ih (a + 1) _ H locs ls q (by omega) (by rw [hsu, if_pos k1, if_neg k2]; omega) hP hD hS (lv_sub hl [0, 1, 2, 3] rfl)
        · have k2 : cr_n fr a = v := cr_eq (by omega) (by omega) (g1.symm.trans c3)
          refine lv_iload_n hx hb dX0_build_178 rfl (lv_at hl 0 rfl) ?_
          refine lv_aload_n hx hb dX0_build_179 rfl (lv_at hl 3 rfl) ?_
          refine va_get (D := D) (ci := 0) (v := .ref (h 3)) (C := RX0) (T := TX0) (N := 13) hx hb hts in_X0 hown hK hP 0 rfl rfl 3 (by decide) (hts _ q29) (fun _ h9 => h9) rfl dX0_build_180 ?_
          refine lv_iload_n hx hb dX0_build_183 rfl (lv_at hl 1 rfl) ?_
          refine va_iald hx hb hK hP 3 0 rfl rfl (vp_in_nI (show a < 12 by omega) (by decide)) dX0_build_184 ?_
          refine lv_topi (fun y9 ey9 => ?_)
          obtain rfl : y9 = lo a := ey9.trans (congrArg lo (nI_clamp (show a < 2 ^ 31 by omega)))
          refine lv_isub hx hb dX0_build_185 ?_
          refine lv_topi (fun o2 eo2 => ?_)
          have ho2 : o2.toInt = o1.toInt - (lo a).toInt := by rw [eo2, fb_subI (by omega) (by omega)]
          refine lv_istore_n (lv' := [(2, .int o2), (3, .int (nI a)), (1, .int (nI v)), (0, .ref (h 0))]) hx hb dX0_build_186 rfl hl (by decide) rfl (fun ls hl => ?_)
          refine lv_iinc (v := (nI (a + 1))) (lv' := [(3, .int (nI (a + 1))), (2, .int o2), (1, .int (nI v)), (0, .ref (h 0))]) hx hb dX0_build_187 hl (k := 1) rfl (cr_inc a) (by decide) rfl (fun ls hl => ?_)
          refine lv_goto (tgt := 141) hx hb dX0_build_190 (by decide) ?_
          exact ih (a + 1) o2 H locs ls q (by omega) (by rw [hsu, if_pos k1, if_pos k2, ho2]; show _ = _ + (_ - (lo a).toInt); omega) hP hD hS (lv_sub hl [0, 1, 2, 3] rfl)
set_option maxHeartbeats 4000000 in
set_option maxRecDepth 100000 in
/-- rooms of source and sink -/
theorem lpX0_build_131 {p : Program} {l : Launch} {env : Env} {s : State} {m : MethodId} {args : Array Value} {below : List Frame} {meth : Method} {c : Code} {Q : State → Prop} {D : va_G} {d : ClassId} {h : Nat → Nat} {A : Nat → Prop} (hx : p.tables.exec = Jvm.exec) (hb : c.code = cX0_build) (hml : c.maxLocals = 4) (hown : s.vm.findClass RX0 = some m.cls) (hts : ∀ w ∈ lw_all, w.before args s = true) (hA : ∀ q, s.heap.size ≤ q → A q) (hK : va_K D vwCl [(d, .int)] s) (cnt nd sn : Int32) (fr to lo hi ta he fl bY qu : Nat → Int32) (cn : Nat) (hcn : cnt = nI cn) (hAr : cr_Arcs cn fr to lo hi)
    (K : ∀ (ro : Nat → Int32) (H : Heap) (locs : List Loc) (ls : Array Slot), (cr_B3 cn fr to lo hi 6 ro) → va_P D vwCl (xw d h cnt nd sn fr to lo hi ta he ro fl bY qu) H → va_D A (xw d h cnt nd sn fr to lo hi ta he ro fl bY qu) → va_S A s.heap H locs → lv_has ls 4 [(1, .int (nI 6)), (0, .ref (h 0))] → W p l env ({ frames := 1, cells := 0, slots := 0, locals := 24 } : Room) s m args below meth c H locs 0 0 Q (F0 m 227 ls []))
    : ∀ (n : Nat) (v : Nat) (ro : Nat → Int32) (H : Heap) (locs : List Loc) (ls : Array Slot), (v ≤ 6) → (7 ≤ v + n) → (cr_B3 cn fr to lo hi v ro) → va_P D vwCl (xw d h cnt nd sn fr to lo hi ta he ro fl bY qu) H → va_D A (xw d h cnt nd sn fr to lo hi ta he ro fl bY qu) → va_S A s.heap H locs → lv_has ls 4 [(1, .int (nI v)), (0, .ref (h 0))] → W p l env ({ frames := 1, cells := 0, slots := 0, locals := 24 } : Room) s m args below meth c H locs 0 0 Q (F0 m 131 ls []) := by
  intro n
  induction n with
  | zero =>
    intro v ro H locs ls h1 h2 h3
    exfalso
    omega
  | succ n ih =>
    intro v ro H locs ls h1 h2 h3 hP hD hS hl
    refine lv_iload_n hx hb dX0_build_131 rfl (lv_at hl 0 rfl) ?_
    refine lv_bipush (v := (nI 6)) hx hb dX0_build_132 (by decide) ?_
    refine lv_icmp_ge (tgt := 227) hx hb dX0_build_134 (by decide) (fun c1 => ?_) (fun c1 => ?_)
    · have q : v = 6 := by have := cr_le (by omega) (by omega) c1; omega
      subst q
      exact K ro H locs ls h3 hP hD hS hl
    · have q : v < 6 := cr_nle (by omega) (by omega) c1
      refine lv_iconst (v := (nI 0)) hx hb dX0_build_137 (by decide) ?_
      refine lv_istore_n (lv' := [(2, .int (nI 0)), (1, .int (nI v)), (0, .ref (h 0))]) hx hb dX0_build_138 rfl hl (by decide) rfl (fun ls hl => ?_)
      refine lv_iconst (v := (nI 0)) hx hb dX0_build_139 (by decide) ?_
      refine lv_istore_n (lv' := [(3, .int (nI 0)), (2, .int (nI 0)), (1, .int (nI v)), (0, .ref (h 0))]) hx hb dX0_build_140 rfl hl (by decide) rfl (fun ls hl => ?_)
      refine lpX0_build_141 hx hb hml hown hts hA hK cnt nd sn fr to lo hi ta he ro fl bY qu cn hcn hAr v q (fun ov H locs ls hov hP hD hS hl => ?_) (cn + 1) 0 (nI 0) H locs ls (by omega) (by omega) rfl hP hD hS (lv_sub hl [0, 1, 2, 3] rfl)
      have hrn : -240 ≤ cr_ov (cr_n fr) (cr_n to) (cr_i lo) v cn ∧ cr_ov (cr_n fr) (cr_n to) (cr_i lo) v cn ≤ 240 := cr_ov_rng hAr.1 (fun j hj => by have := hAr.2 j (by omega); omega)
      refine lv_iload_n hx hb dX0_build_193 rfl (lv_at hl 1 rfl) ?_
      refine lv_if_le (tgt := 210) hx hb dX0_build_194 (by decide) (fun c2 => ?_) (fun c2 => ?_)
      · rw [cr_le0] at c2
        refine lv_aload_n hx hb dX0_build_210 rfl (lv_at hl 3 rfl) ?_
        refine va_get (D := D) (ci := 0) (v := .ref (h 7)) (C := RX0) (T := TX0) (N := 13) hx hb hts in_X0 hown hK hP 0 rfl rfl 7 (by decide) (hts _ q33) (fun _ h9 => h9) rfl dX0_build_211 ?_
        refine lv_bipush (v := (nI 19)) hx hb dX0_build_214 (by decide) ?_
        refine lv_iload_n hx hb dX0_build_216 rfl (lv_at hl 2 rfl) ?_
        refine lv_iadd hx hb dX0_build_217 ?_
        refine lv_topi (fun y9 ey9 => ?_)
        obtain rfl : y9 = nI (19 + v) := ey9.trans (nI_add 19 v)
        refine lv_iload_n hx hb dX0_build_218 rfl (lv_at hl 1 rfl) ?_
        refine lv_ineg hx hb dX0_build_219 ?_
        refine lv_topi (fun zz ezz => ?_)
        have hzz : zz.toInt = - ov.toInt := by rw [ezz, fb_negI (by omega)]
        refine va_iast hx hb hK hP hD hS 7 0 rfl rfl (vp_in_nI (show (19 + v) < 25 by omega) (by decide)) dX0_build_220 (fun H locs hP hD hS => ?_)
        rw [nI_clamp (show (19 + v) < 2 ^ 31 by omega)] at hP hD
        have hP : va_P D vwCl (xw d h cnt nd sn fr to lo hi ta he (upd ro (19 + v) zz) fl bY qu) H := hP
        have hD : va_D A (xw d h cnt nd sn fr to lo hi ta he (upd ro (19 + v) zz) fl bY qu) := hD
        refine lv_iinc (v := (nI (v + 1))) (lv' := [(1, .int (nI (v + 1))), (3, .int (nI cn)), (2, .int ov), (0, .ref (h 0))]) hx hb dX0_build_221 hl (k := 2) rfl (cr_inc v) (by decide) rfl (fun ls hl => ?_)
        refine lv_goto (tgt := 131) hx hb dX0_build_224 (by decide) ?_
        exact ih (v + 1) _ H locs ls q (by omega) (cr_B3_step h3 q (Or.inr ⟨rfl, by omega, by omega⟩)) hP hD hS (lv_sub hl [0, 3] rfl)
      · rw [cr_le0] at c2
        refine lv_aload_n hx hb dX0_build_197 rfl (lv_at hl 3 rfl) ?_
        refine va_get (D := D) (ci := 0) (v := .ref (h 7)) (C := RX0) (T := TX0) (N := 13) hx hb hts in_X0 hown hK hP 0 rfl rfl 7 (by decide) (hts _ q33) (fun _ h9 => h9) rfl dX0_build_198 ?_
        refine lv_bipush (v := (nI 13)) hx hb dX0_build_201 (by decide) ?_
        refine lv_iload_n hx hb dX0_build_203 rfl (lv_at hl 2 rfl) ?_
        refine lv_iadd hx hb dX0_build_204 ?_
        refine lv_topi (fun y9 ey9 => ?_)
        obtain rfl : y9 = nI (13 + v) := ey9.trans (nI_add 13 v)
        refine lv_iload_n hx hb dX0_build_205 rfl (lv_at hl 1 rfl) ?_
        refine va_iast hx hb hK hP hD hS 7 0 rfl rfl (vp_in_nI (show (13 + v) < 25 by omega) (by decide)) dX0_build_206 (fun H locs hP hD hS => ?_)
        rw [nI_clamp (show (13 + v) < 2 ^ 31 by omega)] at hP hD
        have hP : va_P D vwCl (xw d h cnt nd sn fr to lo hi ta he (upd ro (13 + v) ov) fl bY qu) H := hP
        have hD : va_D A (xw d h cnt nd sn fr to lo hi ta he (upd ro (13 + v) ov) fl bY qu) := hD
        refine lv_goto (tgt := 221) hx hb dX0_build_207 (by decide) ?_
        refine lv_iinc (v := (nI (v + 1))) (lv' := [(1, .int (nI (v + 1))), (3, .int (nI cn)), (2, .int ov), (0, .ref (h 0))]) hx hb dX0_build_221 hl (k := 2) rfl (cr_inc v) (by decide) rfl (fun ls hl => ?_)
        refine lv_goto (tgt := 131) hx hb dX0_build_224 (by decide) ?_
        exact ih (v + 1) _ H locs ls q (by omega) (cr_B3_step h3 q (Or.inl ⟨rfl, by omega, by omega⟩)) hP hD hS (lv_sub hl [0, 3] rfl)
set_option maxHeartbeats 4000000 in
set_option maxRecDepth 100000 in
/-- build() -/
theorem metX0_build (l : Launch) (D : va_G) (d : ClassId) (h : Nat → Nat) (sz : Nat) (cnt nd sn : Int32) (fr to lo hi ta he ro fl bY qu : Nat → Int32) (cn : Nat) (hcn : cnt = nI cn) (hAr : cr_Arcs cn fr to lo hi) : cr_Mv l D d (xw d h cnt nd sn fr to lo hi ta he ro fl bY qu) sz yX0_build cX0_build 4 1 24 [.ref (h 0)] (S := (Nat → Int32) × (Nat → Int32) × (Nat → Int32) × (Nat → Int32)) (fun u => cr_Bt cn fr to lo hi u.1 u.2.1 u.2.2.1 0 0 0 ∧ ∀ e, e < 25 → u.2.2.2 e = 0) (fun u => xw d h cnt nd sn fr to lo hi u.1 u.2.1 u.2.2.1 u.2.2.2 bY qu) := by
  refine cr_begin (Qc := fun A => va_Qv _ (cr_Bh D d A _) A) (by decide) (Nat.le_of_ble_eq_true rfl) ?_
  intro p env s m below meth c A ls hx hb hr hml hts hown hlocks hA hP hK hD hS hl
  have hown : s.vm.findClass RX0 = some m.cls := hown
  have hl : lv_has ls 4 [(0, .ref (h 0))] := hl
  refine lv_iconst (v := (nI 0)) hx hb dX0_build_0 (by decide) ?_
  refine lv_istore_n (lv' := [(1, .int (nI 0)), (0, .ref (h 0))]) hx hb dX0_build_1 rfl hl (by decide) rfl (fun ls hl => ?_)
  refine lpX0_build_2 hx hb hml hown hts hA hK cnt nd sn fr to lo hi bY qu (fun ta he ro fl H locs ls hB1 hP hD hS hl => ?_) 7 0 ta he ro fl s.heap [] ls (by omega) (by omega) (fun j hj => absurd hj (Nat.not_lt_zero j)) hP hD hS hl
  refine lv_iconst (v := (nI 0)) hx hb dX0_build_38 (by decide) ?_
  refine lv_istore_n (lv' := [(1, .int (nI 0)), (0, .ref (h 0))]) hx hb dX0_build_39 rfl hl (by decide) rfl (fun ls hl => ?_)
  refine lpX0_build_40 hx hb hml hown hts hA hK cnt nd sn fr to lo hi bY qu cn hcn hAr.1 (fun ta he ro fl H locs ls hB1 hB2 hP hD hS hl => ?_) 13 0 ta he ro fl H locs ls (by omega) (by omega) hB1 (fun j hj => absurd hj (Nat.not_lt_zero j)) hP hD hS hl
  refine lv_aload_n hx hb dX0_build_120 rfl (lv_at hl 1 rfl) ?_
  refine lv_bipush (v := (nI 12)) hx hb dX0_build_121 (by decide) ?_
  refine lv_iconst (v := (nI 0)) hx hb dX0_build_123 (by decide) ?_
  refine lv_iconst (v := (nI 0)) hx hb dX0_build_124 (by decide) ?_
  refine lv_iconst (v := (nI 0)) hx hb dX0_build_125 (by decide) ?_
  refine cr_selfv (As := [.int (nI 12), .int (nI 0), .int (nI 0), .int (nI 0)]) (rest := []) ⟨hx, hb, hml, hown, hts⟩ (metX0_setEdge l D d h H.size cnt nd sn fr to lo hi ta he ro fl bY qu 12 (nI 0) (nI 0) (nI 0) (by omega)) (cwV 4 hts (lw_V q98 q100 qs2 q16 q101) rfl rfl rfl (by decide +kernel) ⟨Nat.le_of_ble_eq_true rfl, Nat.le_of_ble_eq_true rfl⟩) hK hP hD hS hA (ci := 0) rfl rfl rfl hl.1 rfl (Nat.le_of_ble_eq_true rfl) dX0_build_126 ⟨Nat.le_refl _, Nat.le_refl _⟩ (fun u H locs hw hP hD hS => ?_)
  have hP : va_P D vwCl (xw d h cnt nd sn fr to lo hi (upd ta 12 (nI 0)) (upd he 12 (nI 0)) (upd ro 12 (nI 0)) (upd fl 12 (nI 0)) bY qu) H := hP
  have hD : va_D A (xw d h cnt nd sn fr to lo hi (upd ta 12 (nI 0)) (upd he 12 (nI 0)) (upd ro 12 (nI 0)) (upd fl 12 (nI 0)) bY qu) := hD
  have hB1 := cr_B1_keep (x := nI 0) (y := nI 0) (z := nI 0) (w := nI 0) hB1 (show 12 < 13 by decide)
  have hB2 := cr_B2_keep (x := nI 0) (y := nI 0) (z := nI 0) (w := nI 0) hB2
  refine lv_iconst (v := (nI 0)) hx hb dX0_build_129 (by decide) ?_
  refine lv_istore_n (lv' := [(1, .int (nI 0)), (0, .ref (h 0))]) hx hb dX0_build_130 rfl hl (by decide) rfl (fun ls hl => ?_)
  refine lpX0_build_131 hx hb hml hown hts hA hK cnt nd sn fr to lo hi _ _ _ bY qu cn hcn hAr (fun ro2 H locs ls hB3 hP hD hS hl => ?_) 7 0 _ H locs ls (by omega) (by omega) (cr_B3_0 hB1 hB2 pk_us) hP hD hS hl
  exact cr_vret (upd ta 12 (nI 0), upd he 12 (nI 0), ro2, upd fl 12 (nI 0)) hx hb hr hlocks hK hP hD hS dX0_build_227 (cr_built hAr hB1 hB2 ⟨(pk_us : upd ta 12 (nI 0) 12 = nI 0), (pk_us : upd he 12 (nI 0) 12 = nI 0), (pk_us : upd fl 12 (nI 0) 12 = nI 0)⟩ hB3)
end
section
/-! PLAIN: what least, most and through answer, out of what moveAll left -/
theorem cr_pot_0 {T G : Nat → Nat} {fl : Nat → Int32} (h : ∀ e, e < 25 → fl e = 0) (p : Nat → Int) : cr_pot T G (cr_i fl) p 25 = 0 := cr_si_z (fun e he => by
  show (fl e).toInt * _ = 0
  rw [h e he]
  exact Int.zero_mul _)
theorem cr_ne_m1 : ∀ e, e < 25 → nI e ≠ (-1 : Int32) := by
  intro e he q
  have := congrArg Int32.toInt q
  rw [nI_toInt (by omega), cr_m1] at this
  omega
/-- behind build and solve -/
theorem cr_solved {ta he ro fl f : Nat → Int32} {nd sn : Int32} (h0 : ∀ e, e < 25 → fl e = 0) (hn : nd.toInt = cr_need ro) (hM : cr_MA (cr_n ta) (cr_n he) ro fl (-1) 6 7 nd sn f) : cr_Fl ta he ro f sn.toInt ∧ cr_End ta he ro (cr_i f) sn.toInt ∧ 0 ≤ sn.toInt ∧ sn.toInt ≤ nd.toInt := by
  obtain ⟨h1, h2, h3, -, h5, h6⟩ := hM
  refine ⟨⟨h3, fun p => ?_⟩, ?_, h1, h2⟩
  · rw [h5 p, cr_pot_0 h0 p]
    omega
  · rcases h6 with h6 | ⟨S, a, b, c⟩
    · exact Or.inl (by rw [h6]; exact hn)
    · exact Or.inr ⟨S, a, b, fun e he => c e he (cr_ne_m1 e he)⟩
theorem cr_tight_up {T G : Nat → Nat} {R F : Nat → Int} {S : Nat → Bool} {a e : Nat} {z : Int} (h : cr_tight T G R F S e) (hne : e ≠ a) : cr_tight T G R (cr_up F a z) S e := by
  unfold cr_tight
  rw [cr_up_n hne]
  exact h
/-- one edge's flow changed -/
theorem cr_flo_up {ta he ro : Nat → Int32} {F : Nat → Int} {m c : Int} {a : Nat} (ha : a < 25) (hv : ∀ e, e < 25 → 0 ≤ F e ∧ F e ≤ cr_i ro e) (hp : ∀ p : Nat → Int, cr_pot (cr_n ta) (cr_n he) F p 25 = m * (p 7 - p 6) + c * (p (cr_n he a) - p (cr_n ta a))) (h0 : 0 ≤ F a - c) (h1 : F a - c ≤ cr_i ro a) : cr_Flo ta he ro (cr_up F a (F a - c)) m := by
  refine ⟨fun e he => ?_, fun p => ?_⟩
  · by_cases q : e = a
    · subst q
      rw [cr_up_s]
      exact ⟨h0, h1⟩
    · rw [cr_up_n q]
      exact hv e he
  · rw [cr_pot_upd (F := F) ha (fun i _ hne => cr_up_n hne), hp p, cr_up_s, show F a - c - F a = -c by omega, Int.neg_mul]
    omega
theorem cr_flip (c x y : Int) : c * (x - y) = -c * (y - x) := by rw [Int.neg_mul, ← Int.mul_neg, Int.neg_sub]
theorem cr_x_least {cnt : Nat} {fr to lo hi ta he ro : Nat → Int32} {F : Nat → Int} {a : Nat} {c : Int} {r : Int32} (hA : cr_Arcs cnt fr to lo hi) (hB : cr_Bt cnt fr to lo hi ta he ro 0 0 0) (ha : a < cnt) (hv : ∀ e, e < 25 → 0 ≤ F e ∧ F e ≤ cr_i ro e) (hp : ∀ p : Nat → Int, cr_pot (cr_n ta) (cr_n he) F p 25 = cr_need ro * (p 7 - p 6) + c * (p (cr_n he a) - p (cr_n ta a))) (h0 : 0 ≤ c) (h1 : c ≤ F a) (hs : c = F a ∨ ∃ S : Nat → Bool, S (cr_n ta a) = true ∧ S (cr_n he a) = false ∧ ∀ e, e < 25 → e ≠ a → cr_tight (cr_n ta) (cr_n he) (cr_i ro) F S e) (hr : r.toInt = cr_i lo a + F a - c) : cr_PL (cr_n fr) (cr_n to) (cr_i lo) (cr_i hi) cnt a r := by
  have h12 := hA.1
  have hva := hv a (by omega)
  have hG := cr_flo_up (ta := ta) (he := he) (by omega) hv hp (by omega) (by omega)
  obtain ⟨b1, b2, b3⟩ := hB.1 a ha
  have e1 : cr_n ta a = cr_n fr a := by show (ta a).toNatClampNeg = _; rw [b1]
  have e2 : cr_n he a = cr_n to a := by show (he a).toNatClampNeg = _; rw [b2]
  refine Or.inr ⟨by omega, by omega, cr_feas hA hB hG ha (by rw [cr_up_s]; omega), fun z hz1 hz2 => ?_⟩
  rcases hs with hs | ⟨S, s1, s2, s3⟩
  · omega
  · exact cr_infeas hA hB hG ha (fun e he hne => cr_tight_up (s3 e he hne) hne) (Or.inl ⟨by rw [← e1]; exact s1, by rw [← e2]; exact s2, by rw [cr_up_s]; omega⟩)
theorem cr_x_most {cnt : Nat} {fr to lo hi ta he ro : Nat → Int32} {F : Nat → Int} {a : Nat} {c : Int} {r : Int32} (hA : cr_Arcs cnt fr to lo hi) (hB : cr_Bt cnt fr to lo hi ta he ro 0 0 0) (ha : a < cnt) (hv : ∀ e, e < 25 → 0 ≤ F e ∧ F e ≤ cr_i ro e) (hp : ∀ p : Nat → Int, cr_pot (cr_n ta) (cr_n he) F p 25 = cr_need ro * (p 7 - p 6) + c * (p (cr_n ta a) - p (cr_n he a))) (h0 : 0 ≤ c) (h1 : c ≤ cr_i ro a - F a) (hs : c = cr_i ro a - F a ∨ ∃ S : Nat → Bool, S (cr_n he a) = true ∧ S (cr_n ta a) = false ∧ ∀ e, e < 25 → e ≠ a → cr_tight (cr_n ta) (cr_n he) (cr_i ro) F S e) (hr : r.toInt = cr_i lo a + F a + c) : cr_PM (cr_n fr) (cr_n to) (cr_i lo) (cr_i hi) cnt a r := by
  have h12 := hA.1
  have hva := hv a (by omega)
  have hG := cr_flo_up (ta := ta) (he := he) (m := cr_need ro) (c := -c) (a := a) (by omega) hv (fun p => by rw [hp p, cr_flip c]) (by omega) (by omega)
  obtain ⟨b1, b2, b3⟩ := hB.1 a ha
  have e1 : cr_n ta a = cr_n fr a := by show (ta a).toNatClampNeg = _; rw [b1]
  have e2 : cr_n he a = cr_n to a := by show (he a).toNatClampNeg = _; rw [b2]
  refine Or.inr ⟨by omega, by omega, cr_feas hA hB hG ha (by rw [cr_up_s]; omega), fun z hz1 hz2 => ?_⟩
  rcases hs with hs | ⟨S, s1, s2, s3⟩
  · omega
  · exact cr_infeas hA hB hG ha (fun e he hne => cr_tight_up (s3 e he hne) hne) (Or.inr ⟨by rw [← e1]; exact s2, by rw [← e2]; exact s1, by rw [cr_up_s]; omega⟩)
/-- the arcs and one more -/
theorem cr_ext_pot {A B : Nat → Nat} {x p : Nat → Int} {n s t : Nat} {z : Int} : cr_pot (cr_un A n t) (cr_un B n s) (cr_up x n z) p (n + 1) = cr_pot A B x p n + z * (p s - p t) := by
  unfold cr_pot
  rw [fb_si_succ]
  have h1 : fb_si (fun e => cr_up x n z e * (p (cr_un B n s e) - p (cr_un A n t e))) n = fb_si (fun e => x e * (p (B e) - p (A e))) n := fb_si_cong (fun e he => by rw [cr_up_n (by omega), cr_un_n (by omega), cr_un_n (by omega)])
  rw [h1, cr_up_s, cr_un_s, cr_un_s]
theorem cr_ext_lk {A B : Nat → Nat} {lo hi : Nat → Int} {S : Nat → Bool} {n s t : Nat} {z : Int} : cr_lk (cr_un A n t) (cr_un B n s) (cr_up lo n z) (cr_up hi n z) S (n + 1) = cr_lk A B lo hi S n + cr_lt (cr_un A n t) (cr_un B n s) (cr_up lo n z) (cr_up hi n z) S n := by
  unfold cr_lk
  rw [fb_si_succ]
  have h1 : fb_si (cr_lt (cr_un A n t) (cr_un B n s) (cr_up lo n z) (cr_up hi n z) S) n = fb_si (cr_lt A B lo hi S) n := fb_si_cong (fun e he => by
    unfold cr_lt
    rw [cr_up_n (by omega), cr_up_n (by omega), cr_un_n (by omega), cr_un_n (by omega)])
  rw [h1]
theorem cr_ext_lt {A B : Nat → Nat} {n s t : Nat} (h : ∀ a, a < n → A a < 6 ∧ B a < 6) (hs : s < 6) (ht : t < 6) : ∀ a, a < n + 1 → cr_un A n t a < 6 ∧ cr_un B n s a < 6 := by
  intro a ha
  by_cases e : a = n
  · subst e
    rw [cr_un_s, cr_un_s]
    exact ⟨ht, hs⟩
  · rw [cr_un_n e, cr_un_n e]
    exact h a (by omega)
theorem cr_x_through {cnt : Nat} {fr to lo hi ta he ro : Nat → Int32} {F : Nat → Int} {s t : Nat} {c : Int} {r : Int32} (hA : cr_Arcs cnt fr to lo hi) (hB : cr_Bt cnt fr to lo hi ta he ro t s 240) (hX : cr_X t s 240) (hv : ∀ e, e < 25 → 0 ≤ F e ∧ F e ≤ cr_i ro e) (hp : ∀ p : Nat → Int, cr_pot (cr_n ta) (cr_n he) F p 25 = cr_need ro * (p 7 - p 6) + c * (p t - p s)) (h0 : 0 ≤ c) (h1 : c ≤ 240 - F 12) (hs : c = 240 - F 12 ∨ ∃ S : Nat → Bool, S s = true ∧ S t = false ∧ ∀ e, e < 25 → e ≠ 12 → cr_tight (cr_n ta) (cr_n he) (cr_i ro) F S e) (hr : r.toInt = F 12 + c) : cr_PT (cr_n fr) (cr_n to) (cr_i lo) (cr_i hi) cnt s t r := by
  have h12 := hA.1
  have hva := hv 12 (by omega)
  obtain ⟨b1, b2, b3⟩ := hB.2.2.1
  obtain ⟨x1, x2, -⟩ := id hX
  have e1 : cr_n ta 12 = t := cr_n_of b1 (by omega)
  have e2 : cr_n he 12 = s := cr_n_of b2 (by omega)
  have hG := cr_flo_up (ta := ta) (he := he) (m := cr_need ro) (c := -c) (a := 12) (by omega) hv (fun p => by rw [hp p, e1, e2, cr_flip c]) (by omega) (by omega)
  have hG12 : cr_up F 12 (F 12 - -c) 12 = r.toInt := by rw [cr_up_s]; omega
  have hcirc : ∀ p, cr_pot (cr_un (cr_n fr) cnt t) (cr_un (cr_n to) cnt s) (cr_up (fun a => cr_i lo a + cr_up F 12 (F 12 - -c) a) cnt r.toInt) p (cnt + 1) = 0 := by
    intro p
    rw [cr_ext_pot, ← hG12]
    exact cr_circ hA hB hX hG p
  have hb : ∀ j, j < cnt → 0 ≤ cr_up F 12 (F 12 - -c) j ∧ cr_i lo j + cr_up F 12 (F 12 - -c) j ≤ cr_i hi j := by
    intro j hj
    have g1 := hG.1 j (by omega)
    have g2 := (hB.1 j hj).2.2
    omega
  refine Or.inr ⟨by omega, by omega, ?_, fun z hz1 hz2 => ?_⟩
  · intro k _
    refine cr_circ_le (x := cr_up (fun a => cr_i lo a + cr_up F 12 (F 12 - -c) a) cnt r.toInt) _ (fun j hj => ?_) hcirc
    by_cases e : j = cnt
    · subst e
      rw [cr_up_s, cr_up_s, cr_up_s]
      omega
    · rw [cr_up_n e, cr_up_n e, cr_up_n e]
      have := hb j (by omega)
      omega
  · rcases hs with hs | ⟨S, s1, s2, s3⟩
    · omega
    · intro hal
      obtain ⟨k, hk, hm⟩ := cr_mask S
      have q := hal k hk
      rw [cr_lk_same (cr_ext_lt hA.lt x2 x1) hm] at q
      rw [cr_circ_one (x := cr_up (fun a => cr_i lo a + cr_up F 12 (F 12 - -c) a) cnt r.toInt) (k := cnt) (by omega) (fun j hj hne => by
        obtain ⟨d1, d2, d3⟩ := hB.1 j (by omega)
        have f1 : cr_n ta j = cr_n fr j := by show (ta j).toNatClampNeg = _; rw [d1]
        have f2 : cr_n he j = cr_n to j := by show (he j).toNatClampNeg = _; rw [d2]
        have tt := s3 j (by omega) (by omega)
        unfold cr_tight at tt
        rw [f1, f2] at tt
        rw [cr_up_n hne, cr_up_n hne, cr_up_n hne, cr_un_n hne, cr_un_n hne, cr_up_n (show j ≠ 12 by omega)]
        exact ⟨fun a b => by have := tt.1 a b; omega, fun a b => by have := tt.2 a b; omega⟩) hcirc] at q
      have g1 : S (cr_un (cr_n fr) cnt t cnt) = false := by rw [cr_un_s]; exact s2
      have g2 : S (cr_un (cr_n to) cnt s cnt) = true := by rw [cr_un_s]; exact s1
      rw [cr_lt_in g1 g2, cr_b_f g1, cr_b_t g2, cr_up_s, cr_up_s] at q
      omega
theorem cr_x_none {cnt : Nat} {fr to lo hi ta he ro : Nat → Int32} {F : Nat → Int} {m : Int} (hA : cr_Arcs cnt fr to lo hi) (hB : cr_Bt cnt fr to lo hi ta he ro 0 0 0) (hF : cr_Flo ta he ro F m) (hE : cr_End ta he ro F m) (hm : m < cr_need ro) (a : Nat) : ∀ z, cr_i lo a ≤ z → z ≤ cr_i hi a → ¬ cr_alw (cr_n fr) (cr_n to) (cr_up (cr_i lo) a z) (cr_up (cr_i hi) a z) cnt := by
  obtain ⟨-, k, hk, e⟩ := cr_x_wst hA hB hF hE
  exact fun z h1 h2 => cr_none hk (by omega) h1 h2
theorem cr_x_noneT {cnt : Nat} {fr to lo hi ta he ro : Nat → Int32} {F : Nat → Int} {m : Int} {s t : Nat} (hA : cr_Arcs cnt fr to lo hi) (hB : cr_Bt cnt fr to lo hi ta he ro t s 240) (hX : cr_X t s 240) (hF : cr_Flo ta he ro F m) (hE : cr_End ta he ro F m) (hm : m < cr_need ro) : ∀ z, 0 ≤ z → z ≤ 240 → ¬ cr_alT (cr_n fr) (cr_n to) (cr_i lo) (cr_i hi) cnt s t z := by
  obtain ⟨k, hk, e⟩ := cr_x_some hA hB hX hF hE
  intro z h1 h2 hal
  have q := hal k hk
  rw [cr_ext_lk] at q
  have et : cr_un (cr_n fr) cnt t cnt = t := cr_un_s
  have es : cr_un (cr_n to) cnt s cnt = s := cr_un_s
  unfold cr_e12 at e
  cases a : cr_tb k t <;> cases b : cr_tb k s
  · rw [cr_lt_eq (by rw [et, es, a, b])] at q
    rw [if_neg (by rw [a]; simp)] at e
    omega
  · rw [cr_lt_in (by rw [et]; exact a) (by rw [es]; exact b), cr_up_s] at q
    rw [if_neg (by rw [a]; simp)] at e
    omega
  · rw [cr_lt_out (by rw [et]; exact a) (by rw [es]; exact b), cr_up_s] at q
    rw [if_pos ⟨a, b⟩] at e
    omega
  · rw [cr_lt_eq (by rw [et, es, a, b])] at q
    rw [if_neg (by rw [b]; simp)] at e
    omega
theorem cr_ofI {a : Int32} {n : Nat} (h : 0 ≤ a.toInt ∧ a.toInt < n) (hn : n < 2 ^ 31) : ∃ k, k < n ∧ a = nI k := vp_in_of (vp_in_iff.mpr h) hn
end
section
/-! MODULE CirculationRange: arc, bounds, reverse, dropLast, arcs -/
/-- fair ends, fair amounts -/
def cr_gv (f t : Int32) : Prop := (0 ≤ f.toInt ∧ f.toInt < 6) ∧ (0 ≤ t.toInt ∧ t.toInt < 6) ∧ f ≠ t
def cr_ga (m : Int32) : Prop := 0 ≤ m.toInt ∧ m.toInt ≤ 20
def cr_gb (a m : Int32) : Prop := 0 ≤ a.toInt ∧ a.toInt ≤ m.toInt ∧ m.toInt ≤ 20
def cr_ia (n : Nat) (a : Int32) : Prop := 0 ≤ a.toInt ∧ a.toInt < n
/-- the five things that a change can touch -/
abbrev cr_U : Type := Int32 × (Nat → Int32) × (Nat → Int32) × (Nat → Int32) × (Nat → Int32)
def cr_Parc (n : Nat) (u0 : cr_U) (f t m r : Int32) (u : cr_U) : Prop := (¬ cr_gv f t ∧ r = -1 ∧ u = u0) ∨ (cr_gv f t ∧ ¬ cr_ga m ∧ r = -2 ∧ u = u0) ∨ (cr_gv f t ∧ cr_ga m ∧ n = 12 ∧ r = -3 ∧ u = u0) ∨ (cr_gv f t ∧ cr_ga m ∧ n < 12 ∧ r = nI n ∧ u = (nI (n + 1), upd u0.2.1 n f, upd u0.2.2.1 n t, upd u0.2.2.2.1 n (nI 0), upd u0.2.2.2.2 n m))
def cr_Pbou (n : Nat) (u0 : cr_U) (a b m r : Int32) (u : cr_U) : Prop := (¬ cr_ia n a ∧ r = -4 ∧ u = u0) ∨ (cr_ia n a ∧ ¬ cr_gb b m ∧ r = -2 ∧ u = u0) ∨ (cr_gb b m ∧ ∃ k, k < n ∧ a = nI k ∧ r = nI 0 ∧ u = (u0.1, u0.2.1, u0.2.2.1, upd u0.2.2.2.1 k b, upd u0.2.2.2.2 k m))
def cr_Prev (n : Nat) (u0 : cr_U) (a r : Int32) (u : cr_U) : Prop := (¬ cr_ia n a ∧ r = -4 ∧ u = u0) ∨ (∃ k, k < n ∧ a = nI k ∧ r = nI 0 ∧ u = (u0.1, upd u0.2.1 k (u0.2.2.1 k), upd u0.2.2.1 k (u0.2.1 k), u0.2.2.2.1, u0.2.2.2.2))
def cr_Pdro (n : Nat) (u0 : cr_U) (r : Int32) (u : cr_U) : Prop := (n = 0 ∧ r = -4 ∧ u = u0) ∨ (0 < n ∧ r = nI (n - 1) ∧ u = (nI (n - 1), u0.2))
theorem cr_ia_nI {n k : Nat} (h : k < n) (hn : n < 2 ^ 31) : cr_ia n (nI k) := by
  unfold cr_ia
  rw [nI_toInt (by omega)]
  omega
set_option maxHeartbeats 4000000 in
set_option maxRecDepth 100000 in
/-- arcs() -/
theorem metX0_arcs (l : Launch) (D : va_G) (d : ClassId) (h : Nat → Nat) (sz : Nat) (cnt nd sn : Int32) (fr to lo hi ta he ro fl bY qu : Nat → Int32)  : cr_Mi l D d (xw d h cnt nd sn fr to lo hi ta he ro fl bY qu) sz yX0_arcs cX0_arcs 1 (some .int) 0 0 [.ref (h 0)] (S := Unit) (fun r _ => r = cnt) (fun _ => xw d h cnt nd sn fr to lo hi ta he ro fl bY qu) := by
  refine cr_begin (Qc := fun A => va_Qi _ (cr_Bh D d A _) A) (by decide) (Nat.le_of_ble_eq_true rfl) ?_
  intro p env s m below meth c A ls hx hb hr hml hts hown hlocks hA hP hK hD hS hl
  have hown : s.vm.findClass RX0 = some m.cls := hown
  have hl : lv_has ls 1 [(0, .ref (h 0))] := hl
  refine lv_aload_n hx hb dX0_arcs_0 rfl (lv_at hl 0 rfl) ?_
  refine va_get (D := D) (ci := 0) (v := .int cnt) (C := RX0) (T := TX0) (N := 13) hx hb hts in_X0 hown hK hP 0 rfl rfl 0 (by decide) (hts _ q26) (fun _ h9 => h9) rfl dX0_arcs_1 ?_
  exact cr_iret () hx hb hr hlocks hK hP hD hS dX0_arcs_4 (rfl)
set_option maxHeartbeats 4000000 in
set_option maxRecDepth 100000 in
/-- dropLast() -/
theorem metX0_dropLast (l : Launch) (D : va_G) (d : ClassId) (h : Nat → Nat) (sz : Nat) (cnt nd sn : Int32) (fr to lo hi ta he ro fl bY qu : Nat → Int32) (n : Nat) (hn : cnt = nI n) (hn2 : n ≤ 12) : cr_Mi l D d (xw d h cnt nd sn fr to lo hi ta he ro fl bY qu) sz yX0_dropLast cX0_dropLast 1 (some .int) 0 0 [.ref (h 0)] (S := cr_U) (fun r u => cr_Pdro n (cnt, fr, to, lo, hi) r u) (fun u => xw d h u.1 nd sn u.2.1 u.2.2.1 u.2.2.2.1 u.2.2.2.2 ta he ro fl bY qu) := by
  refine cr_begin (Qc := fun A => va_Qi _ (cr_Bh D d A _) A) (by decide) (Nat.le_of_ble_eq_true rfl) ?_
  intro p env s m below meth c A ls hx hb hr hml hts hown hlocks hA hP hK hD hS hl
  have hown : s.vm.findClass RX0 = some m.cls := hown
  have hl : lv_has ls 1 [(0, .ref (h 0))] := hl
  refine lv_aload_n hx hb dX0_dropLast_0 rfl (lv_at hl 0 rfl) ?_
  refine va_get (D := D) (ci := 0) (v := .int cnt) (C := RX0) (T := TX0) (N := 13) hx hb hts in_X0 hown hK hP 0 rfl rfl 0 (by decide) (hts _ q26) (fun _ h9 => h9) rfl dX0_dropLast_1 ?_
  refine lv_if_ne (tgt := 10) hx hb dX0_dropLast_4 (by decide) (fun c1 => ?_) (fun c1 => ?_)
  · have q : 0 < n := by
      rcases Nat.eq_zero_or_pos n with e | e
      · exact absurd (by rw [hn, e]; rfl) c1
      · exact e
    refine lv_aload_n hx hb dX0_dropLast_10 rfl (lv_at hl 0 rfl) ?_
    refine lv_dup hx hb dX0_dropLast_11 rfl ?_
    refine va_get (D := D) (ci := 0) (v := .int cnt) (C := RX0) (T := TX0) (N := 13) hx hb hts in_X0 hown hK hP 0 rfl rfl 0 (by decide) (hts _ q26) (fun _ h9 => h9) rfl dX0_dropLast_12 ?_
    refine lv_iconst (v := (nI 1)) hx hb dX0_dropLast_15 (by decide) ?_
    refine lv_isub hx hb dX0_dropLast_16 ?_
    refine lv_topi (fun y9 ey9 => ?_)
    obtain rfl : y9 = nI (n - 1) := ey9.trans (by rw [hn]; exact pk_sub (a := n) (b := 1) (by omega))
    refine va_put (D := D) (ci := 0) (v := .int (nI (n - 1))) (ty := .int) (C := RX0) (T := TX0) (N := 13) hx hb hts in_X0 tyX0 tyX0_ok nmX0 hown hK hP hD hS 0 rfl rfl 0 (by decide) (hts _ q26) (fun _ h9 => h9) rfl (by decide +kernel) rfl rfl (Nat.le_of_ble_eq_true rfl) dX0_dropLast_17 (fun H locs hP hD hS => ?_)
    have hP : va_P D vwCl (xw d h (nI (n - 1)) nd sn fr to lo hi ta he ro fl bY qu) H := hP
    have hD : va_D A (xw d h (nI (n - 1)) nd sn fr to lo hi ta he ro fl bY qu) := hD
    refine lv_aload_n hx hb dX0_dropLast_20 rfl (lv_at hl 0 rfl) ?_
    refine va_get (D := D) (ci := 0) (v := .int (nI (n - 1))) (C := RX0) (T := TX0) (N := 13) hx hb hts in_X0 hown hK hP 0 rfl rfl 0 (by decide) (hts _ q26) (fun _ h9 => h9) rfl dX0_dropLast_21 ?_
    exact cr_iret (nI (n - 1), fr, to, lo, hi) hx hb hr hlocks hK hP hD hS dX0_dropLast_24 (Or.inr ⟨q, rfl, rfl⟩)
  · have q : n = 0 := by rw [hn] at c1; exact cr_eq (by omega) (by decide) (show nI n = nI 0 from c1)
    refine lv_bipush (v := (-4)) hx hb dX0_dropLast_7 (by decide) ?_
    exact cr_iret (cnt, fr, to, lo, hi) hx hb hr hlocks hK hP hD hS dX0_dropLast_9 (Or.inl ⟨q, rfl, rfl⟩)
set_option maxHeartbeats 4000000 in
set_option maxRecDepth 100000 in
/-- bounds(arc, least, most) -/
theorem metX0_bounds (l : Launch) (D : va_G) (d : ClassId) (h : Nat → Nat) (sz : Nat) (cnt nd sn : Int32) (fr to lo hi ta he ro fl bY qu : Nat → Int32) (n : Nat) (hn : cnt = nI n) (hn2 : n ≤ 12) (a b m9 : Int32) : cr_Mi l D d (xw d h cnt nd sn fr to lo hi ta he ro fl bY qu) sz yX0_bounds cX0_bounds 4 (some .int) 1 21 [.ref (h 0), .int a, .int b, .int m9] (S := cr_U) (fun r u => cr_Pbou n (cnt, fr, to, lo, hi) a b m9 r u) (fun u => xw d h u.1 nd sn u.2.1 u.2.2.1 u.2.2.2.1 u.2.2.2.2 ta he ro fl bY qu) := by
  refine cr_begin (Qc := fun A => va_Qi _ (cr_Bh D d A _) A) (by decide) (Nat.le_of_ble_eq_true rfl) ?_
  intro p env s m below meth c A ls hx hb hr hml hts hown hlocks hA hP hK hD hS hl
  have hown : s.vm.findClass RX0 = some m.cls := hown
  have hl : lv_has ls 4 [(0, .ref (h 0)), (1, .int a), (2, .int b), (3, .int m9)] := hl
  refine lv_aload_n hx hb dX0_bounds_0 rfl (lv_at hl 0 rfl) ?_
  refine lv_iload_n hx hb dX0_bounds_1 rfl (lv_at hl 1 rfl) ?_
  refine cr_selfi (As := [.int a]) (rest := []) ⟨hx, hb, hml, hown, hts⟩ (metX0_noArc l D d h s.heap.size cnt nd sn fr to lo hi ta he ro fl bY qu n a hn (by omega)) (cwV 1 hts (lw_V q78 q80 qs0 q16 q81) rfl rfl rfl (by decide +kernel) ⟨Nat.le_of_ble_eq_true rfl, Nat.le_of_ble_eq_true rfl⟩) hK hP hD hS hA (ci := 0) rfl rfl rfl hl.1 rfl (Nat.le_of_ble_eq_true rfl) dX0_bounds_2 ⟨Nat.le_refl _, Nat.le_refl _⟩ (fun r u H locs hw hP hD hS => ?_)
  have hP : va_P D vwCl (xw d h cnt nd sn fr to lo hi ta he ro fl bY qu) H := hP
  have hD : va_D A (xw d h cnt nd sn fr to lo hi ta he ro fl bY qu) := hD
  refine lv_if_eq (tgt := 11) hx hb dX0_bounds_5 (by decide) (fun c1 => ?_) (fun c1 => ?_)
  · have q : cr_ia n a := by
      unfold cr_ia
      by_cases z : 0 ≤ a.toInt ∧ a.toInt < n
      · exact z
      · rw [if_neg z] at hw; rw [hw] at c1; exact absurd c1 (by decide)
    refine lv_iload_n hx hb dX0_bounds_11 rfl (lv_at hl 2 rfl) ?_
    refine lv_if_lt (tgt := 26) hx hb dX0_bounds_12 (by decide) (fun c2 => ?_) (fun c2 => ?_)
    · refine lv_bipush (v := (-2)) hx hb dX0_bounds_26 (by decide) ?_
      have q2 : ¬ cr_gb b m9 := by
        unfold cr_gb
        rw [cr_lt0] at c2
        omega
      exact cr_iret (cnt, fr, to, lo, hi) hx hb hr hlocks hK hP hD hS dX0_bounds_28 (Or.inr (Or.inl ⟨q, q2, rfl, rfl⟩))
    · rw [cr_lt0] at c2
      refine lv_iload_n hx hb dX0_bounds_15 rfl (lv_at hl 2 rfl) ?_
      refine lv_iload_n hx hb dX0_bounds_16 rfl (lv_at hl 3 rfl) ?_
      refine lv_icmp_gt (tgt := 26) hx hb dX0_bounds_17 (by decide) (fun c3 => ?_) (fun c3 => ?_)
      · refine lv_bipush (v := (-2)) hx hb dX0_bounds_26 (by decide) ?_
        have q2 : ¬ cr_gb b m9 := by
          unfold cr_gb
          rw [Int32.lt_iff_toInt_lt] at c3
          omega
        exact cr_iret (cnt, fr, to, lo, hi) hx hb hr hlocks hK hP hD hS dX0_bounds_28 (Or.inr (Or.inl ⟨q, q2, rfl, rfl⟩))
      · rw [Int32.lt_iff_toInt_lt] at c3
        refine lv_iload_n hx hb dX0_bounds_20 rfl (lv_at hl 3 rfl) ?_
        refine lv_bipush (v := (nI 20)) hx hb dX0_bounds_21 (by decide) ?_
        refine lv_icmp_le (tgt := 29) hx hb dX0_bounds_23 (by decide) (fun c4 => ?_) (fun c4 => ?_)
        · rw [Int32.le_iff_toInt_le, show (nI 20).toInt = 20 from rfl] at c4
          have q2 : cr_gb b m9 := by
            unfold cr_gb
            omega
          obtain ⟨k, hk, rfl⟩ := cr_ofI q (by omega)
          refine lv_aload_n hx hb dX0_bounds_29 rfl (lv_at hl 0 rfl) ?_
          refine va_get (D := D) (ci := 0) (v := .ref (h 3)) (C := RX0) (T := TX0) (N := 13) hx hb hts in_X0 hown hK hP 0 rfl rfl 3 (by decide) (hts _ q29) (fun _ h9 => h9) rfl dX0_bounds_30 ?_
          refine lv_iload_n hx hb dX0_bounds_33 rfl (lv_at hl 1 rfl) ?_
          refine lv_iload_n hx hb dX0_bounds_34 rfl (lv_at hl 2 rfl) ?_
          refine va_iast hx hb hK hP hD hS 3 0 rfl rfl (vp_in_nI (show k < 12 by omega) (by decide)) dX0_bounds_35 (fun H locs hP hD hS => ?_)
          rw [nI_clamp (show k < 2 ^ 31 by omega)] at hP hD
          have hP : va_P D vwCl (xw d h cnt nd sn fr to (upd lo k b) hi ta he ro fl bY qu) H := hP
          have hD : va_D A (xw d h cnt nd sn fr to (upd lo k b) hi ta he ro fl bY qu) := hD
          refine lv_aload_n hx hb dX0_bounds_36 rfl (lv_at hl 0 rfl) ?_
          refine va_get (D := D) (ci := 0) (v := .ref (h 4)) (C := RX0) (T := TX0) (N := 13) hx hb hts in_X0 hown hK hP 0 rfl rfl 4 (by decide) (hts _ q30) (fun _ h9 => h9) rfl dX0_bounds_37 ?_
          refine lv_iload_n hx hb dX0_bounds_40 rfl (lv_at hl 1 rfl) ?_
          refine lv_iload_n hx hb dX0_bounds_41 rfl (lv_at hl 3 rfl) ?_
          refine va_iast hx hb hK hP hD hS 4 0 rfl rfl (vp_in_nI (show k < 12 by omega) (by decide)) dX0_bounds_42 (fun H locs hP hD hS => ?_)
          rw [nI_clamp (show k < 2 ^ 31 by omega)] at hP hD
          have hP : va_P D vwCl (xw d h cnt nd sn fr to (upd lo k b) (upd hi k m9) ta he ro fl bY qu) H := hP
          have hD : va_D A (xw d h cnt nd sn fr to (upd lo k b) (upd hi k m9) ta he ro fl bY qu) := hD
          refine lv_iconst (v := (nI 0)) hx hb dX0_bounds_43 (by decide) ?_
          exact cr_iret (cnt, fr, to, upd lo k b, upd hi k m9) hx hb hr hlocks hK hP hD hS dX0_bounds_44 (Or.inr (Or.inr ⟨q2, k, hk, rfl, rfl, rfl⟩))
        · refine lv_bipush (v := (-2)) hx hb dX0_bounds_26 (by decide) ?_
          have q2 : ¬ cr_gb b m9 := by
            unfold cr_gb
            rw [Int32.le_iff_toInt_le, show (nI 20).toInt = 20 from rfl] at c4
            omega
          exact cr_iret (cnt, fr, to, lo, hi) hx hb hr hlocks hK hP hD hS dX0_bounds_28 (Or.inr (Or.inl ⟨q, q2, rfl, rfl⟩))
  · have q : ¬ cr_ia n a := by
      unfold cr_ia
      intro z
      rw [if_pos z] at hw
      exact c1 hw
    refine lv_bipush (v := (-4)) hx hb dX0_bounds_8 (by decide) ?_
    exact cr_iret (cnt, fr, to, lo, hi) hx hb hr hlocks hK hP hD hS dX0_bounds_10 (Or.inl ⟨q, rfl, rfl⟩)
set_option maxHeartbeats 4000000 in
set_option maxRecDepth 100000 in
/-- reverse(arc) -/
theorem metX0_reverse (l : Launch) (D : va_G) (d : ClassId) (h : Nat → Nat) (sz : Nat) (cnt nd sn : Int32) (fr to lo hi ta he ro fl bY qu : Nat → Int32) (n : Nat) (hn : cnt = nI n) (hn2 : n ≤ 12) (a : Int32) : cr_Mi l D d (xw d h cnt nd sn fr to lo hi ta he ro fl bY qu) sz yX0_reverse cX0_reverse 3 (some .int) 1 21 [.ref (h 0), .int a] (S := cr_U) (fun r u => cr_Prev n (cnt, fr, to, lo, hi) a r u) (fun u => xw d h u.1 nd sn u.2.1 u.2.2.1 u.2.2.2.1 u.2.2.2.2 ta he ro fl bY qu) := by
  refine cr_begin (Qc := fun A => va_Qi _ (cr_Bh D d A _) A) (by decide) (Nat.le_of_ble_eq_true rfl) ?_
  intro p env s m below meth c A ls hx hb hr hml hts hown hlocks hA hP hK hD hS hl
  have hown : s.vm.findClass RX0 = some m.cls := hown
  have hl : lv_has ls 3 [(0, .ref (h 0)), (1, .int a)] := hl
  refine lv_aload_n hx hb dX0_reverse_0 rfl (lv_at hl 0 rfl) ?_
  refine lv_iload_n hx hb dX0_reverse_1 rfl (lv_at hl 1 rfl) ?_
  refine cr_selfi (As := [.int a]) (rest := []) ⟨hx, hb, hml, hown, hts⟩ (metX0_noArc l D d h s.heap.size cnt nd sn fr to lo hi ta he ro fl bY qu n a hn (by omega)) (cwV 1 hts (lw_V q78 q80 qs0 q16 q81) rfl rfl rfl (by decide +kernel) ⟨Nat.le_of_ble_eq_true rfl, Nat.le_of_ble_eq_true rfl⟩) hK hP hD hS hA (ci := 0) rfl rfl rfl hl.1 rfl (Nat.le_of_ble_eq_true rfl) dX0_reverse_2 ⟨Nat.le_refl _, Nat.le_refl _⟩ (fun r u H locs hw hP hD hS => ?_)
  have hP : va_P D vwCl (xw d h cnt nd sn fr to lo hi ta he ro fl bY qu) H := hP
  have hD : va_D A (xw d h cnt nd sn fr to lo hi ta he ro fl bY qu) := hD
  refine lv_if_eq (tgt := 11) hx hb dX0_reverse_5 (by decide) (fun c1 => ?_) (fun c1 => ?_)
  · have q : cr_ia n a := by
      unfold cr_ia
      by_cases z : 0 ≤ a.toInt ∧ a.toInt < n
      · exact z
      · rw [if_neg z] at hw; rw [hw] at c1; exact absurd c1 (by decide)
    obtain ⟨k, hk, rfl⟩ := cr_ofI q (by omega)
    refine lv_aload_n hx hb dX0_reverse_11 rfl (lv_at hl 0 rfl) ?_
    refine va_get (D := D) (ci := 0) (v := .ref (h 1)) (C := RX0) (T := TX0) (N := 13) hx hb hts in_X0 hown hK hP 0 rfl rfl 1 (by decide) (hts _ q27) (fun _ h9 => h9) rfl dX0_reverse_12 ?_
    refine lv_iload_n hx hb dX0_reverse_15 rfl (lv_at hl 1 rfl) ?_
    refine va_iald hx hb hK hP 1 0 rfl rfl (vp_in_nI (show k < 12 by omega) (by decide)) dX0_reverse_16 ?_
    refine lv_topi (fun y9 ey9 => ?_)
    obtain rfl : y9 = fr k := ey9.trans (congrArg fr (nI_clamp (show k < 2 ^ 31 by omega)))
    refine lv_istore_n (lv' := [(2, .int (fr k)), (0, .ref (h 0)), (1, .int (nI k))]) hx hb dX0_reverse_17 rfl hl (by decide) rfl (fun ls hl => ?_)
    refine lv_aload_n hx hb dX0_reverse_18 rfl (lv_at hl 1 rfl) ?_
    refine va_get (D := D) (ci := 0) (v := .ref (h 1)) (C := RX0) (T := TX0) (N := 13) hx hb hts in_X0 hown hK hP 0 rfl rfl 1 (by decide) (hts _ q27) (fun _ h9 => h9) rfl dX0_reverse_19 ?_
    refine lv_iload_n hx hb dX0_reverse_22 rfl (lv_at hl 2 rfl) ?_
    refine lv_aload_n hx hb dX0_reverse_23 rfl (lv_at hl 1 rfl) ?_
    refine va_get (D := D) (ci := 0) (v := .ref (h 2)) (C := RX0) (T := TX0) (N := 13) hx hb hts in_X0 hown hK hP 0 rfl rfl 2 (by decide) (hts _ q28) (fun _ h9 => h9) rfl dX0_reverse_24 ?_
    refine lv_iload_n hx hb dX0_reverse_27 rfl (lv_at hl 2 rfl) ?_
    refine va_iald hx hb hK hP 2 0 rfl rfl (vp_in_nI (show k < 12 by omega) (by decide)) dX0_reverse_28 ?_
    refine lv_topi (fun y9 ey9 => ?_)
    obtain rfl : y9 = to k := ey9.trans (congrArg to (nI_clamp (show k < 2 ^ 31 by omega)))
    refine va_iast hx hb hK hP hD hS 1 0 rfl rfl (vp_in_nI (show k < 12 by omega) (by decide)) dX0_reverse_29 (fun H locs hP hD hS => ?_)
    rw [nI_clamp (show k < 2 ^ 31 by omega)] at hP hD
    have hP : va_P D vwCl (xw d h cnt nd sn (upd fr k (to k)) to lo hi ta he ro fl bY qu) H := hP
    have hD : va_D A (xw d h cnt nd sn (upd fr k (to k)) to lo hi ta he ro fl bY qu) := hD
    refine lv_aload_n hx hb dX0_reverse_30 rfl (lv_at hl 1 rfl) ?_
    refine va_get (D := D) (ci := 0) (v := .ref (h 2)) (C := RX0) (T := TX0) (N := 13) hx hb hts in_X0 hown hK hP 0 rfl rfl 2 (by decide) (hts _ q28) (fun _ h9 => h9) rfl dX0_reverse_31 ?_
    refine lv_iload_n hx hb dX0_reverse_34 rfl (lv_at hl 2 rfl) ?_
    refine lv_iload_n hx hb dX0_reverse_35 rfl (lv_at hl 0 rfl) ?_
    refine va_iast hx hb hK hP hD hS 2 0 rfl rfl (vp_in_nI (show k < 12 by omega) (by decide)) dX0_reverse_36 (fun H locs hP hD hS => ?_)
    rw [nI_clamp (show k < 2 ^ 31 by omega)] at hP hD
    have hP : va_P D vwCl (xw d h cnt nd sn (upd fr k (to k)) (upd to k (fr k)) lo hi ta he ro fl bY qu) H := hP
    have hD : va_D A (xw d h cnt nd sn (upd fr k (to k)) (upd to k (fr k)) lo hi ta he ro fl bY qu) := hD
    refine lv_iconst (v := (nI 0)) hx hb dX0_reverse_37 (by decide) ?_
    exact cr_iret (cnt, upd fr k (to k), upd to k (fr k), lo, hi) hx hb hr hlocks hK hP hD hS dX0_reverse_38 (Or.inr ⟨k, hk, rfl, rfl, rfl⟩)
  · have q : ¬ cr_ia n a := by
      unfold cr_ia
      intro z
      rw [if_pos z] at hw
      exact c1 hw
    refine lv_bipush (v := (-4)) hx hb dX0_reverse_8 (by decide) ?_
    exact cr_iret (cnt, fr, to, lo, hi) hx hb hr hlocks hK hP hD hS dX0_reverse_10 (Or.inl ⟨q, rfl, rfl⟩)
set_option maxHeartbeats 4000000 in
set_option maxRecDepth 100000 in
/-- arc(from, to, most) -/
theorem metX0_arc (l : Launch) (D : va_G) (d : ClassId) (h : Nat → Nat) (sz : Nat) (cnt nd sn : Int32) (fr to lo hi ta he ro fl bY qu : Nat → Int32) (n : Nat) (hn : cnt = nI n) (hn2 : n ≤ 12) (f9 t9 m9 : Int32) : cr_Mi l D d (xw d h cnt nd sn fr to lo hi ta he ro fl bY qu) sz yX0_arc cX0_arc 5 (some .int) 1 20 [.ref (h 0), .int f9, .int t9, .int m9] (S := cr_U) (fun r u => cr_Parc n (cnt, fr, to, lo, hi) f9 t9 m9 r u) (fun u => xw d h u.1 nd sn u.2.1 u.2.2.1 u.2.2.2.1 u.2.2.2.2 ta he ro fl bY qu) := by
  refine cr_begin (Qc := fun A => va_Qi _ (cr_Bh D d A _) A) (by decide) (Nat.le_of_ble_eq_true rfl) ?_
  intro p env s m below meth c A ls hx hb hr hml hts hown hlocks hA hP hK hD hS hl
  have hown : s.vm.findClass RX0 = some m.cls := hown
  have hl : lv_has ls 5 [(0, .ref (h 0)), (1, .int f9), (2, .int t9), (3, .int m9)] := hl
  refine lv_iload_n hx hb dX0_arc_0 rfl (lv_at hl 1 rfl) ?_
  refine cr_stati (As := [.int f9]) (rest := []) ⟨hx, hb, hml, hown, hts⟩ (metX0_badVertex l D d s.heap.size f9) (va_cwS 1 hts (lw_S q71 q72 q16 q73) rfl rfl rfl (by decide +kernel) ⟨Nat.le_of_ble_eq_true rfl, Nat.le_of_ble_eq_true rfl⟩) hK hP hS hA rfl hl.1 rfl (Nat.le_of_ble_eq_true rfl) dX0_arc_1 ⟨Nat.le_refl _, Nat.le_refl _⟩ (fun r1 H locs hw hP hS => ?_)
  have hP : va_P D vwCl (xw d h cnt nd sn fr to lo hi ta he ro fl bY qu) H := hP
  refine lv_if_ne (tgt := 19) hx hb dX0_arc_4 (by decide) (fun cp1 => ?_) (fun cp1 => ?_)
  · have p1 : ¬ (0 ≤ f9.toInt ∧ f9.toInt < 6) := by
      intro z
      rw [if_pos z] at hw
      exact cp1 hw
    refine lv_iconst (v := (-1)) hx hb dX0_arc_19 (by decide) ?_
    exact cr_iret (cnt, fr, to, lo, hi) hx hb hr hlocks hK hP hD hS dX0_arc_20 (Or.inl ⟨fun z => p1 z.1, rfl, rfl⟩)
  · have p1 : 0 ≤ f9.toInt ∧ f9.toInt < 6 := by
      by_cases z : 0 ≤ f9.toInt ∧ f9.toInt < 6
      · exact z
      · rw [if_neg z] at hw; rw [hw] at cp1; exact absurd cp1 (by decide)
    refine lv_iload_n hx hb dX0_arc_7 rfl (lv_at hl 2 rfl) ?_
    refine cr_stati (As := [.int t9]) (rest := []) ⟨hx, hb, hml, hown, hts⟩ (metX0_badVertex l D d H.size t9) (va_cwS 1 hts (lw_S q71 q72 q16 q73) rfl rfl rfl (by decide +kernel) ⟨Nat.le_of_ble_eq_true rfl, Nat.le_of_ble_eq_true rfl⟩) hK hP hS hA rfl hl.1 rfl (Nat.le_of_ble_eq_true rfl) dX0_arc_8 ⟨Nat.le_refl _, Nat.le_refl _⟩ (fun r2 H locs hw hP hS => ?_)
    have hP : va_P D vwCl (xw d h cnt nd sn fr to lo hi ta he ro fl bY qu) H := hP
    refine lv_if_ne (tgt := 19) hx hb dX0_arc_11 (by decide) (fun cp2 => ?_) (fun cp2 => ?_)
    · have p2 : ¬ (0 ≤ t9.toInt ∧ t9.toInt < 6) := by
        intro z
        rw [if_pos z] at hw
        exact cp2 hw
      refine lv_iconst (v := (-1)) hx hb dX0_arc_19 (by decide) ?_
      exact cr_iret (cnt, fr, to, lo, hi) hx hb hr hlocks hK hP hD hS dX0_arc_20 (Or.inl ⟨fun z => p2 z.2.1, rfl, rfl⟩)
    · have p2 : 0 ≤ t9.toInt ∧ t9.toInt < 6 := by
        by_cases z : 0 ≤ t9.toInt ∧ t9.toInt < 6
        · exact z
        · rw [if_neg z] at hw; rw [hw] at cp2; exact absurd cp2 (by decide)
      refine lv_iload_n hx hb dX0_arc_14 rfl (lv_at hl 1 rfl) ?_
      refine lv_iload_n hx hb dX0_arc_15 rfl (lv_at hl 2 rfl) ?_
      refine lv_icmp_ne (tgt := 21) hx hb dX0_arc_16 (by decide) (fun c3 => ?_) (fun c3 => ?_)
      · have hv : cr_gv f9 t9 := ⟨p1, p2, c3⟩
        refine lv_iload_n hx hb dX0_arc_21 rfl (lv_at hl 3 rfl) ?_
        refine lv_if_lt (tgt := 31) hx hb dX0_arc_22 (by decide) (fun c4 => ?_) (fun c4 => ?_)
        · refine lv_bipush (v := (-2)) hx hb dX0_arc_31 (by decide) ?_
          have ha : ¬ cr_ga m9 := by
            unfold cr_ga
            rw [cr_lt0] at c4
            omega
          exact cr_iret (cnt, fr, to, lo, hi) hx hb hr hlocks hK hP hD hS dX0_arc_33 (Or.inr (Or.inl ⟨hv, ha, rfl, rfl⟩))
        · rw [cr_lt0] at c4
          refine lv_iload_n hx hb dX0_arc_25 rfl (lv_at hl 3 rfl) ?_
          refine lv_bipush (v := (nI 20)) hx hb dX0_arc_26 (by decide) ?_
          refine lv_icmp_le (tgt := 34) hx hb dX0_arc_28 (by decide) (fun c5 => ?_) (fun c5 => ?_)
          · rw [Int32.le_iff_toInt_le, show (nI 20).toInt = 20 from rfl] at c5
            have ha : cr_ga m9 := ⟨by omega, c5⟩
            refine lv_aload_n hx hb dX0_arc_34 rfl (lv_at hl 0 rfl) ?_
            refine va_get (D := D) (ci := 0) (v := .int cnt) (C := RX0) (T := TX0) (N := 13) hx hb hts in_X0 hown hK hP 0 rfl rfl 0 (by decide) (hts _ q26) (fun _ h9 => h9) rfl dX0_arc_35 ?_
            refine lv_bipush (v := (nI 12)) hx hb dX0_arc_38 (by decide) ?_
            refine lv_icmp_lt (tgt := 46) hx hb dX0_arc_40 (by decide) (fun c6 => ?_) (fun c6 => ?_)
            · have q : n < 12 := by
                rw [hn, nI_ltI (by omega) (by decide)] at c6
                exact c6
              refine lv_aload_n hx hb dX0_arc_46 rfl (lv_at hl 0 rfl) ?_
              refine va_get (D := D) (ci := 0) (v := .int cnt) (C := RX0) (T := TX0) (N := 13) hx hb hts in_X0 hown hK hP 0 rfl rfl 0 (by decide) (hts _ q26) (fun _ h9 => h9) rfl dX0_arc_47 ?_
              refine lv_topi (fun y9 ey9 => ?_)
              obtain rfl : y9 = nI n := ey9.trans (hn)
              refine lv_istore (lv' := [(4, .int (nI n)), (0, .ref (h 0)), (1, .int f9), (2, .int t9), (3, .int m9)]) hx hb dX0_arc_50 hl (by decide) rfl (fun ls hl => ?_)
              refine lv_aload_n hx hb dX0_arc_52 rfl (lv_at hl 1 rfl) ?_
              refine va_get (D := D) (ci := 0) (v := .ref (h 1)) (C := RX0) (T := TX0) (N := 13) hx hb hts in_X0 hown hK hP 0 rfl rfl 1 (by decide) (hts _ q27) (fun _ h9 => h9) rfl dX0_arc_53 ?_
              refine lv_iload hx hb dX0_arc_56 (lv_at hl 0 rfl) ?_
              refine lv_iload_n hx hb dX0_arc_58 rfl (lv_at hl 2 rfl) ?_
              refine va_iast hx hb hK hP hD hS 1 0 rfl rfl (vp_in_nI (show n < 12 by omega) (by decide)) dX0_arc_59 (fun H locs hP hD hS => ?_)
              rw [nI_clamp (show n < 2 ^ 31 by omega)] at hP hD
              have hP : va_P D vwCl (xw d h cnt nd sn (upd fr n f9) to lo hi ta he ro fl bY qu) H := hP
              have hD : va_D A (xw d h cnt nd sn (upd fr n f9) to lo hi ta he ro fl bY qu) := hD
              refine lv_aload_n hx hb dX0_arc_60 rfl (lv_at hl 1 rfl) ?_
              refine va_get (D := D) (ci := 0) (v := .ref (h 2)) (C := RX0) (T := TX0) (N := 13) hx hb hts in_X0 hown hK hP 0 rfl rfl 2 (by decide) (hts _ q28) (fun _ h9 => h9) rfl dX0_arc_61 ?_
              refine lv_iload hx hb dX0_arc_64 (lv_at hl 0 rfl) ?_
              refine lv_iload_n hx hb dX0_arc_66 rfl (lv_at hl 3 rfl) ?_
              refine va_iast hx hb hK hP hD hS 2 0 rfl rfl (vp_in_nI (show n < 12 by omega) (by decide)) dX0_arc_67 (fun H locs hP hD hS => ?_)
              rw [nI_clamp (show n < 2 ^ 31 by omega)] at hP hD
              have hP : va_P D vwCl (xw d h cnt nd sn (upd fr n f9) (upd to n t9) lo hi ta he ro fl bY qu) H := hP
              have hD : va_D A (xw d h cnt nd sn (upd fr n f9) (upd to n t9) lo hi ta he ro fl bY qu) := hD
              refine lv_aload_n hx hb dX0_arc_68 rfl (lv_at hl 1 rfl) ?_
              refine va_get (D := D) (ci := 0) (v := .ref (h 3)) (C := RX0) (T := TX0) (N := 13) hx hb hts in_X0 hown hK hP 0 rfl rfl 3 (by decide) (hts _ q29) (fun _ h9 => h9) rfl dX0_arc_69 ?_
              refine lv_iload hx hb dX0_arc_72 (lv_at hl 0 rfl) ?_
              refine lv_iconst (v := (nI 0)) hx hb dX0_arc_74 (by decide) ?_
              refine va_iast hx hb hK hP hD hS 3 0 rfl rfl (vp_in_nI (show n < 12 by omega) (by decide)) dX0_arc_75 (fun H locs hP hD hS => ?_)
              rw [nI_clamp (show n < 2 ^ 31 by omega)] at hP hD
              have hP : va_P D vwCl (xw d h cnt nd sn (upd fr n f9) (upd to n t9) (upd lo n (nI 0)) hi ta he ro fl bY qu) H := hP
              have hD : va_D A (xw d h cnt nd sn (upd fr n f9) (upd to n t9) (upd lo n (nI 0)) hi ta he ro fl bY qu) := hD
              refine lv_aload_n hx hb dX0_arc_76 rfl (lv_at hl 1 rfl) ?_
              refine va_get (D := D) (ci := 0) (v := .ref (h 4)) (C := RX0) (T := TX0) (N := 13) hx hb hts in_X0 hown hK hP 0 rfl rfl 4 (by decide) (hts _ q30) (fun _ h9 => h9) rfl dX0_arc_77 ?_
              refine lv_iload hx hb dX0_arc_80 (lv_at hl 0 rfl) ?_
              refine lv_iload_n hx hb dX0_arc_82 rfl (lv_at hl 4 rfl) ?_
              refine va_iast hx hb hK hP hD hS 4 0 rfl rfl (vp_in_nI (show n < 12 by omega) (by decide)) dX0_arc_83 (fun H locs hP hD hS => ?_)
              rw [nI_clamp (show n < 2 ^ 31 by omega)] at hP hD
              have hP : va_P D vwCl (xw d h cnt nd sn (upd fr n f9) (upd to n t9) (upd lo n (nI 0)) (upd hi n m9) ta he ro fl bY qu) H := hP
              have hD : va_D A (xw d h cnt nd sn (upd fr n f9) (upd to n t9) (upd lo n (nI 0)) (upd hi n m9) ta he ro fl bY qu) := hD
              refine lv_aload_n hx hb dX0_arc_84 rfl (lv_at hl 1 rfl) ?_
              refine lv_dup hx hb dX0_arc_85 rfl ?_
              refine va_get (D := D) (ci := 0) (v := .int cnt) (C := RX0) (T := TX0) (N := 13) hx hb hts in_X0 hown hK hP 0 rfl rfl 0 (by decide) (hts _ q26) (fun _ h9 => h9) rfl dX0_arc_86 ?_
              refine lv_iconst (v := (nI 1)) hx hb dX0_arc_89 (by decide) ?_
              refine lv_iadd hx hb dX0_arc_90 ?_
              refine lv_topi (fun y9 ey9 => ?_)
              obtain rfl : y9 = nI (n + 1) := ey9.trans (by rw [hn]; exact nI_1 n)
              refine va_put (D := D) (ci := 0) (v := .int (nI (n + 1))) (ty := .int) (C := RX0) (T := TX0) (N := 13) hx hb hts in_X0 tyX0 tyX0_ok nmX0 hown hK hP hD hS 0 rfl rfl 0 (by decide) (hts _ q26) (fun _ h9 => h9) rfl (by decide +kernel) rfl rfl (Nat.le_of_ble_eq_true rfl) dX0_arc_91 (fun H locs hP hD hS => ?_)
              have hP : va_P D vwCl (xw d h (nI (n + 1)) nd sn (upd fr n f9) (upd to n t9) (upd lo n (nI 0)) (upd hi n m9) ta he ro fl bY qu) H := hP
              have hD : va_D A (xw d h (nI (n + 1)) nd sn (upd fr n f9) (upd to n t9) (upd lo n (nI 0)) (upd hi n m9) ta he ro fl bY qu) := hD
              refine lv_iload hx hb dX0_arc_94 (lv_at hl 0 rfl) ?_
              exact cr_iret (nI (n + 1), upd fr n f9, upd to n t9, upd lo n (nI 0), upd hi n m9) hx hb hr hlocks hK hP hD hS dX0_arc_96 (Or.inr (Or.inr (Or.inr ⟨hv, ha, q, rfl, rfl⟩)))
            · have q : n = 12 := by
                rw [hn, nI_ltI (by omega) (by decide)] at c6
                omega
              refine lv_bipush (v := (-3)) hx hb dX0_arc_43 (by decide) ?_
              exact cr_iret (cnt, fr, to, lo, hi) hx hb hr hlocks hK hP hD hS dX0_arc_45 (Or.inr (Or.inr (Or.inl ⟨hv, ha, q, rfl, rfl⟩)))
          · refine lv_bipush (v := (-2)) hx hb dX0_arc_31 (by decide) ?_
            have ha : ¬ cr_ga m9 := by
              unfold cr_ga
              rw [Int32.le_iff_toInt_le, show (nI 20).toInt = 20 from rfl] at c5
              omega
            exact cr_iret (cnt, fr, to, lo, hi) hx hb hr hlocks hK hP hD hS dX0_arc_33 (Or.inr (Or.inl ⟨hv, ha, rfl, rfl⟩))
      · refine lv_iconst (v := (-1)) hx hb dX0_arc_19 (by decide) ?_
        exact cr_iret (cnt, fr, to, lo, hi) hx hb hr hlocks hK hP hD hS dX0_arc_20 (Or.inl ⟨fun z => z.2.2 c3, rfl, rfl⟩)
end
section
/-! MODULE CirculationRange: possible, lack, lackingSet, least, most, through -/
theorem cr_sl5 : ∀ i, i < 6 → ((nI i &&& 31).toBitVec.smod 32).toNat = i := by decide +kernel
theorem cr_bit1 (i : Nat) (hi : i < 6) : nI 1 <<< (nI i &&& 31) = nI (2 ^ i) := by
  have h : 2 ^ i < 64 := by
    have : 2 ^ i ≤ 2 ^ 5 := Nat.pow_le_pow_right (by decide) (by omega)
    omega
  rw [pk_shlN _ i (cr_sl5 i hi) (by omega), Nat.one_mul]
theorem cr_orlt {k i : Nat} (hk : k < 64) (hi : i < 6) : k ||| 2 ^ i < 64 := by
  have h : 2 ^ i < 2 ^ 6 := Nat.pow_lt_pow_right (by decide) hi
  exact Nat.or_lt_two_pow (n := 6) hk h
theorem cr_Bt_set {cnt : Nat} {fr to lo hi ta he ro : Nat → Int32} (s t : Nat) (hc : cnt ≤ 12) (hB : cr_Bt cnt fr to lo hi ta he ro 0 0 0) : cr_Bt cnt fr to lo hi (upd ta 12 (nI t)) (upd he 12 (nI s)) (upd ro 12 (nI 240)) t s 240 := by
  obtain ⟨h1, h2, h3, h4, h5⟩ := hB
  have hk : ∀ e, e ≠ 12 → cr_i (upd ro 12 (nI 240)) e = cr_i ro e := fun e he => by
    show (upd ro 12 (nI 240) e).toInt = (ro e).toInt
    rw [pk_un he]
  refine ⟨fun a ha => ?_, fun a ha ha2 => ?_, ⟨pk_us, pk_us, ?_⟩, fun v hv => ?_, fun v hv => ?_⟩
  · rw [pk_un (by omega), pk_un (by omega), hk _ (by omega)]; exact h1 a ha
  · rw [pk_un (by omega), pk_un (by omega), hk _ (by omega)]; exact h2 a ha ha2
  · show (upd ro 12 (nI 240) 12).toInt = 240
    rw [pk_us]; rfl
  · rw [pk_un (by omega), pk_un (by omega), hk _ (by omega)]; exact h4 v hv
  · rw [pk_un (by omega), pk_un (by omega), hk _ (by omega)]; exact h5 v hv
set_option maxHeartbeats 4000000 in
set_option maxRecDepth 100000 in
/-- possible() -/
theorem metX0_possible (l : Launch) (D : va_G) (d : ClassId) (h : Nat → Nat) (sz : Nat) (cnt nd sn : Int32) (fr to lo hi ta he ro fl bY qu : Nat → Int32) (n : Nat) (hn : cnt = nI n) (hAr : cr_Arcs n fr to lo hi) : cr_Mi l D d (xw d h cnt nd sn fr to lo hi ta he ro fl bY qu) sz yX0_possible cX0_possible 1 (some .boolean) 4 98 [.ref (h 0)] (S := Int32 × Int32 × (Nat → Int32) × (Nat → Int32) × (Nat → Int32) × (Nat → Int32) × (Nat → Int32) × (Nat → Int32)) (fun r _ => cr_PP (cr_n fr) (cr_n to) (cr_i lo) (cr_i hi) n r) (fun u => xw d h cnt u.1 u.2.1 fr to lo hi u.2.2.1 u.2.2.2.1 u.2.2.2.2.1 u.2.2.2.2.2.1 u.2.2.2.2.2.2.1 u.2.2.2.2.2.2.2) := by
  refine cr_begin (Qc := fun A => va_Qi _ (cr_Bh D d A _) A) (by decide) (Nat.le_of_ble_eq_true rfl) ?_
  intro p env s m below meth c A ls hx hb hr hml hts hown hlocks hA hP hK hD hS hl
  have hown : s.vm.findClass RX0 = some m.cls := hown
  have hl : lv_has ls 1 [(0, .ref (h 0))] := hl
  refine lv_aload_n hx hb dX0_possible_0 rfl (lv_at hl 0 rfl) ?_
  refine cr_selfv (As := []) (rest := []) ⟨hx, hb, hml, hown, hts⟩ (metX0_build l D d h s.heap.size cnt nd sn fr to lo hi ta he ro fl bY qu n hn hAr) (cwV 0 hts (lw_V q94 q96 qs1 q16 q97) rfl rfl rfl (by decide +kernel) ⟨Nat.le_of_ble_eq_true rfl, Nat.le_of_ble_eq_true rfl⟩) hK hP hD hS hA (ci := 0) rfl rfl rfl hl.1 rfl (Nat.le_of_ble_eq_true rfl) dX0_possible_1 ⟨Nat.le_refl _, Nat.le_refl _⟩ (fun u H locs hw hP hD hS => ?_)
  obtain ⟨ta1, he1, ro1, fl1⟩ := u
  obtain ⟨hB, h0⟩ := hw
  have hB : cr_Bt n fr to lo hi ta1 he1 ro1 0 0 0 := hB
  have h0 : ∀ e, e < 25 → fl1 e = 0 := h0
  have hP : va_P D vwCl (xw d h cnt nd sn fr to lo hi ta1 he1 ro1 fl1 bY qu) H := hP
  have hD : va_D A (xw d h cnt nd sn fr to lo hi ta1 he1 ro1 fl1 bY qu) := hD
  have hE := cr_Bt_ends hAr hB cr_X0
  have hV := cr_Bt_val0 hAr hB cr_X0 h0
  refine lv_aload_n hx hb dX0_possible_4 rfl (lv_at hl 0 rfl) ?_
  refine cr_selfv (As := []) (rest := []) ⟨hx, hb, hml, hown, hts⟩ (metX0_solve l D d h H.size cnt nd sn fr to lo hi ta1 he1 ro1 fl1 bY qu _ _ hE hV (cr_need_rng hAr hB).1 (cr_need_le hAr hB)) (cwV 0 hts (lw_V q102 q104 qs3 q16 q105) rfl rfl rfl (by decide +kernel) ⟨Nat.le_of_ble_eq_true rfl, Nat.le_of_ble_eq_true rfl⟩) hK hP hD hS hA (ci := 0) rfl rfl rfl hl.1 rfl (Nat.le_of_ble_eq_true rfl) dX0_possible_5 ⟨Nat.le_refl _, Nat.le_refl _⟩ (fun u H locs hw hP hD hS => ?_)
  obtain ⟨nd1, sn1, f, bY1, qu1⟩ := u
  obtain ⟨hnd, hM⟩ := hw
  have hnd : nd1.toInt = cr_need ro1 := hnd
  have hM : cr_MA (cr_n ta1) (cr_n he1) ro1 fl1 (-1) 6 7 nd1 sn1 f := hM
  have hP : va_P D vwCl (xw d h cnt nd1 sn1 fr to lo hi ta1 he1 ro1 f bY1 qu1) H := hP
  have hD : va_D A (xw d h cnt nd1 sn1 fr to lo hi ta1 he1 ro1 f bY1 qu1) := hD
  obtain ⟨hF, hEn, hs0, hs1⟩ := cr_solved h0 hnd hM
  have hN1 := cr_need_le hAr hB
  refine lv_aload_n hx hb dX0_possible_8 rfl (lv_at hl 0 rfl) ?_
  refine va_get (D := D) (ci := 0) (v := .int sn1) (C := RX0) (T := TX0) (N := 13) hx hb hts in_X0 hown hK hP 0 rfl rfl 10 (by decide) (hts _ q36) (fun _ h9 => h9) rfl dX0_possible_9 ?_
  refine lv_aload_n hx hb dX0_possible_12 rfl (lv_at hl 0 rfl) ?_
  refine va_get (D := D) (ci := 0) (v := .int nd1) (C := RX0) (T := TX0) (N := 13) hx hb hts in_X0 hown hK hP 0 rfl rfl 9 (by decide) (hts _ q35) (fun _ h9 => h9) rfl dX0_possible_13 ?_
  refine lv_icmp_ne (tgt := 23) hx hb dX0_possible_16 (by decide) (fun c1 => ?_) (fun c1 => ?_)
  · refine lv_iconst (v := (nI 0)) hx hb dX0_possible_23 (by decide) ?_
    have q : ¬ cr_need ro1 - sn1.toInt = 0 := fun q => c1 (Int32.toInt_inj.mp (by omega))
    exact cr_zret (nd1, sn1, ta1, he1, ro1, f, bY1, qu1) hx hb hr hlocks rfl hK hP hD hS dX0_possible_24 (⟨_, cr_x_wst hAr hB hF.flo hEn, show nI 0 = _ from (if_neg q).symm⟩)
  · refine lv_iconst (v := (nI 1)) hx hb dX0_possible_19 (by decide) ?_
    refine lv_goto (tgt := 24) hx hb dX0_possible_20 (by decide) ?_
    have q : cr_need ro1 - sn1.toInt = 0 := by rw [c1]; omega
    exact cr_zret (nd1, sn1, ta1, he1, ro1, f, bY1, qu1) hx hb hr hlocks rfl hK hP hD hS dX0_possible_24 (⟨_, cr_x_wst hAr hB hF.flo hEn, show nI 1 = _ from (if_pos q).symm⟩)
set_option maxHeartbeats 4000000 in
set_option maxRecDepth 100000 in
/-- lack() -/
theorem metX0_lack (l : Launch) (D : va_G) (d : ClassId) (h : Nat → Nat) (sz : Nat) (cnt nd sn : Int32) (fr to lo hi ta he ro fl bY qu : Nat → Int32) (n : Nat) (hn : cnt = nI n) (hAr : cr_Arcs n fr to lo hi) : cr_Mi l D d (xw d h cnt nd sn fr to lo hi ta he ro fl bY qu) sz yX0_lack cX0_lack 1 (some .int) 4 98 [.ref (h 0)] (S := Int32 × Int32 × (Nat → Int32) × (Nat → Int32) × (Nat → Int32) × (Nat → Int32) × (Nat → Int32) × (Nat → Int32)) (fun r _ => cr_wst (cr_n fr) (cr_n to) (cr_i lo) (cr_i hi) n r.toInt) (fun u => xw d h cnt u.1 u.2.1 fr to lo hi u.2.2.1 u.2.2.2.1 u.2.2.2.2.1 u.2.2.2.2.2.1 u.2.2.2.2.2.2.1 u.2.2.2.2.2.2.2) := by
  refine cr_begin (Qc := fun A => va_Qi _ (cr_Bh D d A _) A) (by decide) (Nat.le_of_ble_eq_true rfl) ?_
  intro p env s m below meth c A ls hx hb hr hml hts hown hlocks hA hP hK hD hS hl
  have hown : s.vm.findClass RX0 = some m.cls := hown
  have hl : lv_has ls 1 [(0, .ref (h 0))] := hl
  refine lv_aload_n hx hb dX0_lack_0 rfl (lv_at hl 0 rfl) ?_
  refine cr_selfv (As := []) (rest := []) ⟨hx, hb, hml, hown, hts⟩ (metX0_build l D d h s.heap.size cnt nd sn fr to lo hi ta he ro fl bY qu n hn hAr) (cwV 0 hts (lw_V q94 q96 qs1 q16 q97) rfl rfl rfl (by decide +kernel) ⟨Nat.le_of_ble_eq_true rfl, Nat.le_of_ble_eq_true rfl⟩) hK hP hD hS hA (ci := 0) rfl rfl rfl hl.1 rfl (Nat.le_of_ble_eq_true rfl) dX0_lack_1 ⟨Nat.le_refl _, Nat.le_refl _⟩ (fun u H locs hw hP hD hS => ?_)
  obtain ⟨ta1, he1, ro1, fl1⟩ := u
  obtain ⟨hB, h0⟩ := hw
  have hB : cr_Bt n fr to lo hi ta1 he1 ro1 0 0 0 := hB
  have h0 : ∀ e, e < 25 → fl1 e = 0 := h0
  have hP : va_P D vwCl (xw d h cnt nd sn fr to lo hi ta1 he1 ro1 fl1 bY qu) H := hP
  have hD : va_D A (xw d h cnt nd sn fr to lo hi ta1 he1 ro1 fl1 bY qu) := hD
  have hE := cr_Bt_ends hAr hB cr_X0
  have hV := cr_Bt_val0 hAr hB cr_X0 h0
  refine lv_aload_n hx hb dX0_lack_4 rfl (lv_at hl 0 rfl) ?_
  refine cr_selfv (As := []) (rest := []) ⟨hx, hb, hml, hown, hts⟩ (metX0_solve l D d h H.size cnt nd sn fr to lo hi ta1 he1 ro1 fl1 bY qu _ _ hE hV (cr_need_rng hAr hB).1 (cr_need_le hAr hB)) (cwV 0 hts (lw_V q102 q104 qs3 q16 q105) rfl rfl rfl (by decide +kernel) ⟨Nat.le_of_ble_eq_true rfl, Nat.le_of_ble_eq_true rfl⟩) hK hP hD hS hA (ci := 0) rfl rfl rfl hl.1 rfl (Nat.le_of_ble_eq_true rfl) dX0_lack_5 ⟨Nat.le_refl _, Nat.le_refl _⟩ (fun u H locs hw hP hD hS => ?_)
  obtain ⟨nd1, sn1, f, bY1, qu1⟩ := u
  obtain ⟨hnd, hM⟩ := hw
  have hnd : nd1.toInt = cr_need ro1 := hnd
  have hM : cr_MA (cr_n ta1) (cr_n he1) ro1 fl1 (-1) 6 7 nd1 sn1 f := hM
  have hP : va_P D vwCl (xw d h cnt nd1 sn1 fr to lo hi ta1 he1 ro1 f bY1 qu1) H := hP
  have hD : va_D A (xw d h cnt nd1 sn1 fr to lo hi ta1 he1 ro1 f bY1 qu1) := hD
  obtain ⟨hF, hEn, hs0, hs1⟩ := cr_solved h0 hnd hM
  have hN1 := cr_need_le hAr hB
  refine lv_aload_n hx hb dX0_lack_8 rfl (lv_at hl 0 rfl) ?_
  refine va_get (D := D) (ci := 0) (v := .int nd1) (C := RX0) (T := TX0) (N := 13) hx hb hts in_X0 hown hK hP 0 rfl rfl 9 (by decide) (hts _ q35) (fun _ h9 => h9) rfl dX0_lack_9 ?_
  refine lv_aload_n hx hb dX0_lack_12 rfl (lv_at hl 0 rfl) ?_
  refine va_get (D := D) (ci := 0) (v := .int sn1) (C := RX0) (T := TX0) (N := 13) hx hb hts in_X0 hown hK hP 0 rfl rfl 10 (by decide) (hts _ q36) (fun _ h9 => h9) rfl dX0_lack_13 ?_
  refine lv_isub hx hb dX0_lack_16 ?_
  refine lv_topi (fun z9 ez9 => ?_)
  have hz : z9.toInt = cr_need ro1 - sn1.toInt := by rw [ez9, fb_subI (by omega) (by omega), hnd]
  exact cr_iret (nd1, sn1, ta1, he1, ro1, f, bY1, qu1) hx hb hr hlocks hK hP hD hS dX0_lack_17 (by rw [hz]; exact cr_x_wst hAr hB hF.flo hEn)
set_option maxHeartbeats 4000000 in
set_option maxRecDepth 100000 in
/-- the set that was reached -/
theorem lpX0_lackingSet_22 {p : Program} {l : Launch} {env : Env} {s : State} {m : MethodId} {args : Array Value} {below : List Frame} {meth : Method} {c : Code} {Q : State → Prop} {D : va_G} {d : ClassId} {h : Nat → Nat} {A : Nat → Prop} (hx : p.tables.exec = Jvm.exec) (hb : c.code = cX0_lackingSet) (hml : c.maxLocals = 3) (hown : s.vm.findClass RX0 = some m.cls) (hts : ∀ w ∈ lw_all, w.before args s = true) (hA : ∀ q, s.heap.size ≤ q → A q) (hK : va_K D vwCl [(d, .int)] s) (cnt nd sn : Int32) (fr to lo hi ta he ro fl bY qu : Nat → Int32)
    (K : ∀ (k : Nat) (H : Heap) (locs : List Loc) (ls : Array Slot), (k < 64) → (∀ v, v < 6 → (k.testBit v = true ↔ 0 ≤ (bY v).toInt)) → va_P D vwCl (xw d h cnt nd sn fr to lo hi ta he ro fl bY qu) H → va_D A (xw d h cnt nd sn fr to lo hi ta he ro fl bY qu) → va_S A s.heap H locs → lv_has ls 3 [(2, .int (nI 6)), (1, .int (nI k)), (0, .ref (h 0))] → W p l env ({ frames := 4, cells := 0, slots := 0, locals := 98 } : Room) s m args below meth c H locs 0 0 Q (F0 m 49 ls []))
    : ∀ (n : Nat) (i k : Nat) (H : Heap) (locs : List Loc) (ls : Array Slot), (i ≤ 6) → (7 ≤ i + n) → (k < 64) → (∀ v, v < 6 → (k.testBit v = true ↔ (v < i ∧ 0 ≤ (bY v).toInt))) → va_P D vwCl (xw d h cnt nd sn fr to lo hi ta he ro fl bY qu) H → va_D A (xw d h cnt nd sn fr to lo hi ta he ro fl bY qu) → va_S A s.heap H locs → lv_has ls 3 [(2, .int (nI i)), (1, .int (nI k)), (0, .ref (h 0))] → W p l env ({ frames := 4, cells := 0, slots := 0, locals := 98 } : Room) s m args below meth c H locs 0 0 Q (F0 m 22 ls []) := by
  intro n
  induction n with
  | zero =>
    intro i k H locs ls h1 h2 h3 h4
    exfalso
    omega
  | succ n ih =>
    intro i k H locs ls h1 h2 h3 h4 hP hD hS hl
    refine lv_iload_n hx hb dX0_lackingSet_22 rfl (lv_at hl 0 rfl) ?_
    refine lv_bipush (v := (nI 6)) hx hb dX0_lackingSet_23 (by decide) ?_
    refine lv_icmp_ge (tgt := 49) hx hb dX0_lackingSet_25 (by decide) (fun c1 => ?_) (fun c1 => ?_)
    · have q : i = 6 := by have := cr_le (by omega) (by omega) c1; omega
      subst q
      exact K k H locs ls h3 (fun v hv => (h4 v hv).trans ⟨fun z => z.2, fun z => ⟨hv, z⟩⟩) hP hD hS hl
    · have q : i < 6 := cr_nle (by omega) (by omega) c1
      refine lv_aload_n hx hb dX0_lackingSet_28 rfl (lv_at hl 2 rfl) ?_
      refine va_get (D := D) (ci := 0) (v := .ref (h 9)) (C := RX0) (T := TX0) (N := 13) hx hb hts in_X0 hown hK hP 0 rfl rfl 11 (by decide) (hts _ q37) (fun _ h9 => h9) rfl dX0_lackingSet_29 ?_
      refine lv_iload_n hx hb dX0_lackingSet_32 rfl (lv_at hl 0 rfl) ?_
      refine va_iald hx hb hK hP 9 0 rfl rfl (vp_in_nI (show i < 8 by omega) (by decide)) dX0_lackingSet_33 ?_
      refine lv_topi (fun y9 ey9 => ?_)
      obtain rfl : y9 = bY i := ey9.trans (congrArg bY (nI_clamp (show i < 2 ^ 31 by omega)))
      refine lv_if_lt (tgt := 43) hx hb dX0_lackingSet_34 (by decide) (fun c2 => ?_) (fun c2 => ?_)
      · rw [cr_lt0] at c2
        refine lv_iinc (v := (nI (i + 1))) (lv' := [(2, .int (nI (i + 1))), (1, .int (nI k)), (0, .ref (h 0))]) hx hb dX0_lackingSet_43 hl (k := 0) rfl (cr_inc i) (by decide) rfl (fun ls hl => ?_)
        refine lv_goto (tgt := 22) hx hb dX0_lackingSet_46 (by decide) ?_
        refine ih (i + 1) k H locs ls q (by omega) h3 (fun v hv => (h4 v hv).trans ⟨fun z => ⟨by omega, z.2⟩, fun z => ⟨?_, z.2⟩⟩) hP hD hS (lv_sub hl [0, 1, 2] rfl)
        rcases Nat.lt_or_ge v i with q2 | q2
        · exact q2
        · have e : v = i := by omega
          subst e
          omega
      · rw [cr_lt0] at c2
        refine lv_iload_n hx hb dX0_lackingSet_37 rfl (lv_at hl 1 rfl) ?_
        refine lv_iconst (v := (nI 1)) hx hb dX0_lackingSet_38 (by decide) ?_
        refine lv_iload_n hx hb dX0_lackingSet_39 rfl (lv_at hl 0 rfl) ?_
        refine lv_ishl hx hb dX0_lackingSet_40 ?_
        refine lv_topi (fun y9 ey9 => ?_)
        obtain rfl : y9 = nI (2 ^ i) := ey9.trans (cr_bit1 i q)
        refine lv_ior hx hb dX0_lackingSet_41 ?_
        refine lv_topi (fun y9 ey9 => ?_)
        obtain rfl : y9 = nI (k ||| 2 ^ i) := ey9.trans (fa_or k (2 ^ i))
        refine lv_istore_n (lv' := [(1, .int (nI (k ||| 2 ^ i))), (2, .int (nI i)), (0, .ref (h 0))]) hx hb dX0_lackingSet_42 rfl hl (by decide) rfl (fun ls hl => ?_)
        refine lv_iinc (v := (nI (i + 1))) (lv' := [(2, .int (nI (i + 1))), (1, .int (nI (k ||| 2 ^ i))), (0, .ref (h 0))]) hx hb dX0_lackingSet_43 hl (k := 1) rfl (cr_inc i) (by decide) rfl (fun ls hl => ?_)
        refine lv_goto (tgt := 22) hx hb dX0_lackingSet_46 (by decide) ?_
        refine ih (i + 1) _ H locs ls q (by omega) (cr_orlt h3 q) (fun v hv => ?_) hP hD hS (lv_sub hl [0, 1, 2] rfl)
        rw [fb_bit_set]
        by_cases e : v = i
        · subst e
          simp
          omega
        · have h5 := h4 v hv
          rw [decide_eq_false e, Bool.or_false, h5]
          exact ⟨fun z => ⟨by omega, z.2⟩, fun z => ⟨by omega, z.2⟩⟩
set_option maxHeartbeats 4000000 in
set_option maxRecDepth 100000 in
/-- lackingSet() -/
theorem metX0_lackingSet (l : Launch) (D : va_G) (d : ClassId) (h : Nat → Nat) (sz : Nat) (cnt nd sn : Int32) (fr to lo hi ta he ro fl bY qu : Nat → Int32) (n : Nat) (hn : cnt = nI n) (hAr : cr_Arcs n fr to lo hi) : cr_Mi l D d (xw d h cnt nd sn fr to lo hi ta he ro fl bY qu) sz yX0_lackingSet cX0_lackingSet 3 (some .int) 4 98 [.ref (h 0)] (S := Int32 × Int32 × (Nat → Int32) × (Nat → Int32) × (Nat → Int32) × (Nat → Int32) × (Nat → Int32) × (Nat → Int32)) (fun r _ => cr_PS (cr_n fr) (cr_n to) (cr_i lo) (cr_i hi) n r) (fun u => xw d h cnt u.1 u.2.1 fr to lo hi u.2.2.1 u.2.2.2.1 u.2.2.2.2.1 u.2.2.2.2.2.1 u.2.2.2.2.2.2.1 u.2.2.2.2.2.2.2) := by
  refine cr_begin (Qc := fun A => va_Qi _ (cr_Bh D d A _) A) (by decide) (Nat.le_of_ble_eq_true rfl) ?_
  intro p env s m below meth c A ls hx hb hr hml hts hown hlocks hA hP hK hD hS hl
  have hown : s.vm.findClass RX0 = some m.cls := hown
  have hl : lv_has ls 3 [(0, .ref (h 0))] := hl
  refine lv_aload_n hx hb dX0_lackingSet_0 rfl (lv_at hl 0 rfl) ?_
  refine cr_selfv (As := []) (rest := []) ⟨hx, hb, hml, hown, hts⟩ (metX0_build l D d h s.heap.size cnt nd sn fr to lo hi ta he ro fl bY qu n hn hAr) (cwV 0 hts (lw_V q94 q96 qs1 q16 q97) rfl rfl rfl (by decide +kernel) ⟨Nat.le_of_ble_eq_true rfl, Nat.le_of_ble_eq_true rfl⟩) hK hP hD hS hA (ci := 0) rfl rfl rfl hl.1 rfl (Nat.le_of_ble_eq_true rfl) dX0_lackingSet_1 ⟨Nat.le_refl _, Nat.le_refl _⟩ (fun u H locs hw hP hD hS => ?_)
  obtain ⟨ta1, he1, ro1, fl1⟩ := u
  obtain ⟨hB, h0⟩ := hw
  have hB : cr_Bt n fr to lo hi ta1 he1 ro1 0 0 0 := hB
  have h0 : ∀ e, e < 25 → fl1 e = 0 := h0
  have hP : va_P D vwCl (xw d h cnt nd sn fr to lo hi ta1 he1 ro1 fl1 bY qu) H := hP
  have hD : va_D A (xw d h cnt nd sn fr to lo hi ta1 he1 ro1 fl1 bY qu) := hD
  have hE := cr_Bt_ends hAr hB cr_X0
  have hV := cr_Bt_val0 hAr hB cr_X0 h0
  refine lv_aload_n hx hb dX0_lackingSet_4 rfl (lv_at hl 0 rfl) ?_
  refine cr_selfv (As := []) (rest := []) ⟨hx, hb, hml, hown, hts⟩ (metX0_solve l D d h H.size cnt nd sn fr to lo hi ta1 he1 ro1 fl1 bY qu _ _ hE hV (cr_need_rng hAr hB).1 (cr_need_le hAr hB)) (cwV 0 hts (lw_V q102 q104 qs3 q16 q105) rfl rfl rfl (by decide +kernel) ⟨Nat.le_of_ble_eq_true rfl, Nat.le_of_ble_eq_true rfl⟩) hK hP hD hS hA (ci := 0) rfl rfl rfl hl.1 rfl (Nat.le_of_ble_eq_true rfl) dX0_lackingSet_5 ⟨Nat.le_refl _, Nat.le_refl _⟩ (fun u H locs hw hP hD hS => ?_)
  obtain ⟨nd1, sn1, f, bY1, qu1⟩ := u
  obtain ⟨hnd, hM⟩ := hw
  have hnd : nd1.toInt = cr_need ro1 := hnd
  have hM : cr_MA (cr_n ta1) (cr_n he1) ro1 fl1 (-1) 6 7 nd1 sn1 f := hM
  have hP : va_P D vwCl (xw d h cnt nd1 sn1 fr to lo hi ta1 he1 ro1 f bY1 qu1) H := hP
  have hD : va_D A (xw d h cnt nd1 sn1 fr to lo hi ta1 he1 ro1 f bY1 qu1) := hD
  obtain ⟨hF, hEn, hs0, hs1⟩ := cr_solved h0 hnd hM
  have hN1 := cr_need_le hAr hB
  refine lv_aload_n hx hb dX0_lackingSet_8 rfl (lv_at hl 0 rfl) ?_
  refine lv_bipush (v := (nI 6)) hx hb dX0_lackingSet_9 (by decide) ?_
  refine lv_bipush (v := (nI 7)) hx hb dX0_lackingSet_11 (by decide) ?_
  refine lv_iconst (v := (-1)) hx hb dX0_lackingSet_13 (by decide) ?_
  refine cr_selfi (As := [.int (nI 6), .int (nI 7), .int (-1)]) (rest := []) ⟨hx, hb, hml, hown, hts⟩ (metX0_findWay l D d h H.size cnt nd1 sn1 fr to lo hi ta1 he1 ro1 f bY1 qu1 _ _ 6 7 (-1) hE hF.1 (by decide) (by decide)) (cwV 3 hts (lw_V q110 q112 qs5 q16 q113) rfl rfl rfl (by decide +kernel) ⟨Nat.le_of_ble_eq_true rfl, Nat.le_of_ble_eq_true rfl⟩) hK hP hD hS hA (ci := 0) rfl rfl rfl hl.1 rfl (Nat.le_of_ble_eq_true rfl) dX0_lackingSet_14 ⟨Nat.le_refl _, Nat.le_refl _⟩ (fun r u H locs hw hP hD hS => ?_)
  obtain ⟨bY2, qu2⟩ := u
  have hw : cr_FW (cr_n ta1) (cr_n he1) ro1 f (-1) 6 7 r bY2 := hw
  have hP : va_P D vwCl (xw d h cnt nd1 sn1 fr to lo hi ta1 he1 ro1 f bY2 qu2) H := hP
  have hD : va_D A (xw d h cnt nd1 sn1 fr to lo hi ta1 he1 ro1 f bY2 qu2) := hD
  refine lv_pop hx hb dX0_lackingSet_17 rfl ?_
  refine lv_iconst (v := (nI 0)) hx hb dX0_lackingSet_18 (by decide) ?_
  refine lv_istore_n (lv' := [(1, .int (nI 0)), (0, .ref (h 0))]) hx hb dX0_lackingSet_19 rfl hl (by decide) rfl (fun ls hl => ?_)
  refine lv_iconst (v := (nI 0)) hx hb dX0_lackingSet_20 (by decide) ?_
  refine lv_istore_n (lv' := [(2, .int (nI 0)), (1, .int (nI 0)), (0, .ref (h 0))]) hx hb dX0_lackingSet_21 rfl hl (by decide) rfl (fun ls hl => ?_)
  refine lpX0_lackingSet_22 hx hb hml hown hts hA hK cnt nd1 sn1 fr to lo hi ta1 he1 ro1 f bY2 qu2 (fun k H locs ls hk hbits hP hD hS hl => ?_) 7 0 0 H locs ls (by omega) (by omega) (by decide) (fun v hv => ⟨fun z => (by rw [Nat.zero_testBit] at z; cases z), fun z => absurd z.1 (Nat.not_lt_zero v)⟩) hP hD hS (lv_sub hl [0, 1, 2] rfl)
  refine lv_iload_n hx hb dX0_lackingSet_49 rfl (lv_at hl 1 rfl) ?_
  exact cr_iret (nd1, sn1, ta1, he1, ro1, f, bY2, qu2) hx hb hr hlocks hK hP hD hS dX0_lackingSet_50 (⟨_, cr_x_wst hAr hB hF.flo hEn, k, hk, rfl, fun v hv => (hbits v hv).trans (cr_x_set hAr hB hF hEn hw v hv)⟩)
set_option maxHeartbeats 4000000 in
set_option maxRecDepth 100000 in
/-- least(arc) -/
theorem metX0_least (l : Launch) (D : va_G) (d : ClassId) (h : Nat → Nat) (sz : Nat) (cnt nd sn : Int32) (fr to lo hi ta he ro fl bY qu : Nat → Int32) (n : Nat) (hn : cnt = nI n) (hAr : cr_Arcs n fr to lo hi) (a : Int32) : cr_Mi l D d (xw d h cnt nd sn fr to lo hi ta he ro fl bY qu) sz yX0_least cX0_least 3 (some .int) 4 98 [.ref (h 0), .int a] (S := Int32 × Int32 × (Nat → Int32) × (Nat → Int32) × (Nat → Int32) × (Nat → Int32) × (Nat → Int32) × (Nat → Int32)) (fun r _ => (¬ cr_ia n a ∧ r = -4) ∨ ∃ k, k < n ∧ a = nI k ∧ cr_PL (cr_n fr) (cr_n to) (cr_i lo) (cr_i hi) n k r) (fun u => xw d h cnt u.1 u.2.1 fr to lo hi u.2.2.1 u.2.2.2.1 u.2.2.2.2.1 u.2.2.2.2.2.1 u.2.2.2.2.2.2.1 u.2.2.2.2.2.2.2) := by
  refine cr_begin (Qc := fun A => va_Qi _ (cr_Bh D d A _) A) (by decide) (Nat.le_of_ble_eq_true rfl) ?_
  intro p env s m below meth c A ls hx hb hr hml hts hown hlocks hA hP hK hD hS hl
  have hown : s.vm.findClass RX0 = some m.cls := hown
  have hl : lv_has ls 3 [(0, .ref (h 0)), (1, .int a)] := hl
  refine lv_aload_n hx hb dX0_least_0 rfl (lv_at hl 0 rfl) ?_
  refine lv_iload_n hx hb dX0_least_1 rfl (lv_at hl 1 rfl) ?_
  refine cr_selfi (As := [.int a]) (rest := []) ⟨hx, hb, hml, hown, hts⟩ (metX0_noArc l D d h s.heap.size cnt nd sn fr to lo hi ta he ro fl bY qu n a hn (by have := hAr.1; omega)) (cwV 1 hts (lw_V q78 q80 qs0 q16 q81) rfl rfl rfl (by decide +kernel) ⟨Nat.le_of_ble_eq_true rfl, Nat.le_of_ble_eq_true rfl⟩) hK hP hD hS hA (ci := 0) rfl rfl rfl hl.1 rfl (Nat.le_of_ble_eq_true rfl) dX0_least_2 ⟨Nat.le_refl _, Nat.le_refl _⟩ (fun r u H locs hw hP hD hS => ?_)
  have hP : va_P D vwCl (xw d h cnt nd sn fr to lo hi ta he ro fl bY qu) H := hP
  have hD : va_D A (xw d h cnt nd sn fr to lo hi ta he ro fl bY qu) := hD
  refine lv_if_eq (tgt := 11) hx hb dX0_least_5 (by decide) (fun c1 => ?_) (fun c1 => ?_)
  · have q : cr_ia n a := by
      unfold cr_ia
      by_cases z : 0 ≤ a.toInt ∧ a.toInt < n
      · exact z
      · rw [if_neg z] at hw; rw [hw] at c1; exact absurd c1 (by decide)
    have hn12 := hAr.1
    obtain ⟨k, hk, rfl⟩ := cr_ofI q (by omega)
    refine lv_aload_n hx hb dX0_least_11 rfl (lv_at hl 0 rfl) ?_
    refine cr_selfv (As := []) (rest := []) ⟨hx, hb, hml, hown, hts⟩ (metX0_build l D d h H.size cnt nd sn fr to lo hi ta he ro fl bY qu n hn hAr) (cwV 0 hts (lw_V q94 q96 qs1 q16 q97) rfl rfl rfl (by decide +kernel) ⟨Nat.le_of_ble_eq_true rfl, Nat.le_of_ble_eq_true rfl⟩) hK hP hD hS hA (ci := 0) rfl rfl rfl hl.1 rfl (Nat.le_of_ble_eq_true rfl) dX0_least_12 ⟨Nat.le_refl _, Nat.le_refl _⟩ (fun u H locs hw hP hD hS => ?_)
    obtain ⟨ta1, he1, ro1, fl1⟩ := u
    obtain ⟨hB, h0⟩ := hw
    have hB : cr_Bt n fr to lo hi ta1 he1 ro1 0 0 0 := hB
    have h0 : ∀ e, e < 25 → fl1 e = 0 := h0
    have hP : va_P D vwCl (xw d h cnt nd sn fr to lo hi ta1 he1 ro1 fl1 bY qu) H := hP
    have hD : va_D A (xw d h cnt nd sn fr to lo hi ta1 he1 ro1 fl1 bY qu) := hD
    have hE := cr_Bt_ends hAr hB cr_X0
    have hV := cr_Bt_val0 hAr hB cr_X0 h0
    refine lv_aload_n hx hb dX0_least_15 rfl (lv_at hl 0 rfl) ?_
    refine cr_selfv (As := []) (rest := []) ⟨hx, hb, hml, hown, hts⟩ (metX0_solve l D d h H.size cnt nd sn fr to lo hi ta1 he1 ro1 fl1 bY qu _ _ hE hV (cr_need_rng hAr hB).1 (cr_need_le hAr hB)) (cwV 0 hts (lw_V q102 q104 qs3 q16 q105) rfl rfl rfl (by decide +kernel) ⟨Nat.le_of_ble_eq_true rfl, Nat.le_of_ble_eq_true rfl⟩) hK hP hD hS hA (ci := 0) rfl rfl rfl hl.1 rfl (Nat.le_of_ble_eq_true rfl) dX0_least_16 ⟨Nat.le_refl _, Nat.le_refl _⟩ (fun u H locs hw hP hD hS => ?_)
    obtain ⟨nd1, sn1, f, bY1, qu1⟩ := u
    obtain ⟨hnd, hM⟩ := hw
    have hnd : nd1.toInt = cr_need ro1 := hnd
    have hM : cr_MA (cr_n ta1) (cr_n he1) ro1 fl1 (-1) 6 7 nd1 sn1 f := hM
    have hP : va_P D vwCl (xw d h cnt nd1 sn1 fr to lo hi ta1 he1 ro1 f bY1 qu1) H := hP
    have hD : va_D A (xw d h cnt nd1 sn1 fr to lo hi ta1 he1 ro1 f bY1 qu1) := hD
    obtain ⟨hF, hEn, hs0, hs1⟩ := cr_solved h0 hnd hM
    have hN1 := cr_need_le hAr hB
    refine lv_aload_n hx hb dX0_least_19 rfl (lv_at hl 0 rfl) ?_
    refine va_get (D := D) (ci := 0) (v := .int sn1) (C := RX0) (T := TX0) (N := 13) hx hb hts in_X0 hown hK hP 0 rfl rfl 10 (by decide) (hts _ q36) (fun _ h9 => h9) rfl dX0_least_20 ?_
    refine lv_aload_n hx hb dX0_least_23 rfl (lv_at hl 0 rfl) ?_
    refine va_get (D := D) (ci := 0) (v := .int nd1) (C := RX0) (T := TX0) (N := 13) hx hb hts in_X0 hown hK hP 0 rfl rfl 9 (by decide) (hts _ q35) (fun _ h9 => h9) rfl dX0_least_24 ?_
    refine lv_icmp_ge (tgt := 33) hx hb dX0_least_27 (by decide) (fun c2 => ?_) (fun c2 => ?_)
    · rw [Int32.le_iff_toInt_le] at c2
      have hsn : sn1.toInt = cr_need ro1 := by omega
      obtain ⟨e1, e2, e3, e4⟩ := hE k (by omega)
      obtain ⟨v1, v2, v3, v4⟩ := hF.1 k (by omega)
      have hne : cr_n he1 k ≠ cr_n ta1 k := by
        obtain ⟨b1, b2, -⟩ := hB.1 k hk
        show (he1 k).toNatClampNeg ≠ (ta1 k).toNatClampNeg
        rw [b1, b2]
        exact fun z => (hAr.2 k hk).2.2.2.2.1 z.symm
      refine lv_aload_n hx hb dX0_least_33 rfl (lv_at hl 0 rfl) ?_
      refine lv_aload_n hx hb dX0_least_34 rfl (lv_at hl 0 rfl) ?_
      refine va_get (D := D) (ci := 0) (v := .ref (h 5)) (C := RX0) (T := TX0) (N := 13) hx hb hts in_X0 hown hK hP 0 rfl rfl 5 (by decide) (hts _ q31) (fun _ h9 => h9) rfl dX0_least_35 ?_
      refine lv_iload_n hx hb dX0_least_38 rfl (lv_at hl 1 rfl) ?_
      refine va_iald hx hb hK hP 5 0 rfl rfl (vp_in_nI (show k < 25 by omega) (by decide)) dX0_least_39 ?_
      refine lv_topi (fun y9 ey9 => ?_)
      obtain rfl : y9 = ta1 k := ey9.trans (congrArg ta1 (nI_clamp (show k < 2 ^ 31 by omega)))
      refine lv_topi (fun y9 ey9 => ?_)
      obtain rfl : y9 = nI (cr_n ta1 k) := ey9.trans (e1)
      refine lv_aload_n hx hb dX0_least_40 rfl (lv_at hl 0 rfl) ?_
      refine va_get (D := D) (ci := 0) (v := .ref (h 6)) (C := RX0) (T := TX0) (N := 13) hx hb hts in_X0 hown hK hP 0 rfl rfl 6 (by decide) (hts _ q32) (fun _ h9 => h9) rfl dX0_least_41 ?_
      refine lv_iload_n hx hb dX0_least_44 rfl (lv_at hl 1 rfl) ?_
      refine va_iald hx hb hK hP 6 0 rfl rfl (vp_in_nI (show k < 25 by omega) (by decide)) dX0_least_45 ?_
      refine lv_topi (fun y9 ey9 => ?_)
      obtain rfl : y9 = he1 k := ey9.trans (congrArg he1 (nI_clamp (show k < 2 ^ 31 by omega)))
      refine lv_topi (fun y9 ey9 => ?_)
      obtain rfl : y9 = nI (cr_n he1 k) := ey9.trans (e2)
      refine lv_iload_n hx hb dX0_least_46 rfl (lv_at hl 1 rfl) ?_
      refine lv_aload_n hx hb dX0_least_47 rfl (lv_at hl 0 rfl) ?_
      refine va_get (D := D) (ci := 0) (v := .ref (h 8)) (C := RX0) (T := TX0) (N := 13) hx hb hts in_X0 hown hK hP 0 rfl rfl 8 (by decide) (hts _ q34) (fun _ h9 => h9) rfl dX0_least_48 ?_
      refine lv_iload_n hx hb dX0_least_51 rfl (lv_at hl 1 rfl) ?_
      refine va_iald hx hb hK hP 8 0 rfl rfl (vp_in_nI (show k < 25 by omega) (by decide)) dX0_least_52 ?_
      refine lv_topi (fun y9 ey9 => ?_)
      obtain rfl : y9 = f k := ey9.trans (congrArg f (nI_clamp (show k < 2 ^ 31 by omega)))
      refine cr_selfi (As := [.int (nI (cr_n ta1 k)), .int (nI (cr_n he1 k)), .int (nI k), .int (f k)]) (rest := []) ⟨hx, hb, hml, hown, hts⟩ (metX0_moveAll l D d h H.size cnt nd1 sn1 fr to lo hi ta1 he1 ro1 f bY1 qu1 (cr_n ta1) (cr_n he1) (cr_n ta1 k) (cr_n he1 k) (nI k) (f k) hE hF.1 e3 e4 hne v1 (by omega)) (cwV 4 hts (lw_V q106 q108 qs4 q16 q109) rfl rfl rfl (by decide +kernel) ⟨Nat.le_of_ble_eq_true rfl, Nat.le_of_ble_eq_true rfl⟩) hK hP hD hS hA (ci := 0) rfl rfl rfl hl.1 rfl (Nat.le_of_ble_eq_true rfl) dX0_least_53 ⟨Nat.le_refl _, Nat.le_refl _⟩ (fun r u H locs hw hP hD hS => ?_)
      obtain ⟨f2, bY2, qu2⟩ := u
      obtain ⟨m1, m2, m3, m4, m5, m6⟩ := hw
      have hP : va_P D vwCl (xw d h cnt nd1 sn1 fr to lo hi ta1 he1 ro1 f2 bY2 qu2) H := hP
      have hD : va_D A (xw d h cnt nd1 sn1 fr to lo hi ta1 he1 ro1 f2 bY2 qu2) := hD
      have m4 : f2 k = f k := m4 k (by omega) rfl
      have m3 : cr_Val (cr_n ta1) (cr_n he1) ro1 f2 := m3
      obtain ⟨-, -, -, -, -, a1, a2, a3⟩ := hAr.2 k hk
      have a1 : 0 ≤ (lo k).toInt := a1
      have a4 : (lo k).toInt ≤ 20 := by have : (lo k).toInt ≤ cr_i hi k := a2; omega
      have hfk : (f2 k).toInt = (f k).toInt := by rw [m4]
      refine lv_istore_n (lv' := [(2, .int r), (0, .ref (h 0)), (1, .int (nI k))]) hx hb dX0_least_56 rfl hl (by decide) rfl (fun ls hl => ?_)
      refine lv_aload_n hx hb dX0_least_57 rfl (lv_at hl 1 rfl) ?_
      refine va_get (D := D) (ci := 0) (v := .ref (h 3)) (C := RX0) (T := TX0) (N := 13) hx hb hts in_X0 hown hK hP 0 rfl rfl 3 (by decide) (hts _ q29) (fun _ h9 => h9) rfl dX0_least_58 ?_
      refine lv_iload_n hx hb dX0_least_61 rfl (lv_at hl 2 rfl) ?_
      refine va_iald hx hb hK hP 3 0 rfl rfl (vp_in_nI (show k < 12 by omega) (by decide)) dX0_least_62 ?_
      refine lv_topi (fun y9 ey9 => ?_)
      obtain rfl : y9 = lo k := ey9.trans (congrArg lo (nI_clamp (show k < 2 ^ 31 by omega)))
      refine lv_aload_n hx hb dX0_least_63 rfl (lv_at hl 1 rfl) ?_
      refine va_get (D := D) (ci := 0) (v := .ref (h 8)) (C := RX0) (T := TX0) (N := 13) hx hb hts in_X0 hown hK hP 0 rfl rfl 8 (by decide) (hts _ q34) (fun _ h9 => h9) rfl dX0_least_64 ?_
      refine lv_iload_n hx hb dX0_least_67 rfl (lv_at hl 2 rfl) ?_
      refine va_iald hx hb hK hP 8 0 rfl rfl (vp_in_nI (show k < 25 by omega) (by decide)) dX0_least_68 ?_
      refine lv_topi (fun y9 ey9 => ?_)
      obtain rfl : y9 = f2 k := ey9.trans (congrArg f2 (nI_clamp (show k < 2 ^ 31 by omega)))
      refine lv_iadd hx hb dX0_least_69 ?_
      refine lv_iload_n hx hb dX0_least_70 rfl (lv_at hl 0 rfl) ?_
      refine lv_isub hx hb dX0_least_71 ?_
      refine lv_topi (fun z9 ez9 => ?_)
      have hq1 : (lo k + f2 k).toInt = (lo k).toInt + (f2 k).toInt := fb_addI (by omega) (by omega)
      have hz : z9.toInt = (lo k).toInt + (f2 k).toInt - r.toInt := by rw [ez9, fb_subI (by omega) (by omega), hq1]
      have hst : r.toInt = cr_i f2 k ∨ ∃ S : Nat → Bool, S (cr_n ta1 k) = true ∧ S (cr_n he1 k) = false ∧ ∀ e, e < 25 → e ≠ k → cr_tight (cr_n ta1) (cr_n he1) (cr_i ro1) (cr_i f2) S e := by
        rcases m6 with m6 | ⟨S, s1, s2, s3⟩
        · exact Or.inl (by rw [m6]; exact hfk.symm)
        · exact Or.inr ⟨S, s1, s2, fun e he hn3 => s3 e he (fun z => hn3 (cr_eq (by omega) (by omega) z))⟩
      exact cr_iret (nd1, sn1, ta1, he1, ro1, f2, bY2, qu2) hx hb hr hlocks hK hP hD hS dX0_least_72 (Or.inr ⟨k, hk, rfl, cr_x_least (F := cr_i f2) (c := r.toInt) hAr hB hk (fun e he => ⟨(m3 e he).1, (m3 e he).2.1⟩) (fun p => by rw [← hsn, ← hF.2 p]; exact m5 p) m1 (show r.toInt ≤ (f2 k).toInt by omega) hst hz⟩)
    · rw [Int32.le_iff_toInt_le] at c2
      refine lv_bipush (v := (-5)) hx hb dX0_least_30 (by decide) ?_
      exact cr_iret (nd1, sn1, ta1, he1, ro1, f, bY1, qu1) hx hb hr hlocks hK hP hD hS dX0_least_32 (Or.inr ⟨k, hk, rfl, Or.inl ⟨rfl, cr_x_none hAr hB hF.flo hEn (by omega) k⟩⟩)
  · have q : ¬ cr_ia n a := by
      unfold cr_ia
      intro z
      rw [if_pos z] at hw
      exact c1 hw
    refine lv_bipush (v := (-4)) hx hb dX0_least_8 (by decide) ?_
    exact cr_iret (nd, sn, ta, he, ro, fl, bY, qu) hx hb hr hlocks hK hP hD hS dX0_least_10 (Or.inl ⟨q, rfl⟩)
set_option maxHeartbeats 4000000 in
set_option maxRecDepth 100000 in
/-- most(arc) -/
theorem metX0_most (l : Launch) (D : va_G) (d : ClassId) (h : Nat → Nat) (sz : Nat) (cnt nd sn : Int32) (fr to lo hi ta he ro fl bY qu : Nat → Int32) (n : Nat) (hn : cnt = nI n) (hAr : cr_Arcs n fr to lo hi) (a : Int32) : cr_Mi l D d (xw d h cnt nd sn fr to lo hi ta he ro fl bY qu) sz yX0_most cX0_most 3 (some .int) 4 98 [.ref (h 0), .int a] (S := Int32 × Int32 × (Nat → Int32) × (Nat → Int32) × (Nat → Int32) × (Nat → Int32) × (Nat → Int32) × (Nat → Int32)) (fun r _ => (¬ cr_ia n a ∧ r = -4) ∨ ∃ k, k < n ∧ a = nI k ∧ cr_PM (cr_n fr) (cr_n to) (cr_i lo) (cr_i hi) n k r) (fun u => xw d h cnt u.1 u.2.1 fr to lo hi u.2.2.1 u.2.2.2.1 u.2.2.2.2.1 u.2.2.2.2.2.1 u.2.2.2.2.2.2.1 u.2.2.2.2.2.2.2) := by
  refine cr_begin (Qc := fun A => va_Qi _ (cr_Bh D d A _) A) (by decide) (Nat.le_of_ble_eq_true rfl) ?_
  intro p env s m below meth c A ls hx hb hr hml hts hown hlocks hA hP hK hD hS hl
  have hown : s.vm.findClass RX0 = some m.cls := hown
  have hl : lv_has ls 3 [(0, .ref (h 0)), (1, .int a)] := hl
  refine lv_aload_n hx hb dX0_most_0 rfl (lv_at hl 0 rfl) ?_
  refine lv_iload_n hx hb dX0_most_1 rfl (lv_at hl 1 rfl) ?_
  refine cr_selfi (As := [.int a]) (rest := []) ⟨hx, hb, hml, hown, hts⟩ (metX0_noArc l D d h s.heap.size cnt nd sn fr to lo hi ta he ro fl bY qu n a hn (by have := hAr.1; omega)) (cwV 1 hts (lw_V q78 q80 qs0 q16 q81) rfl rfl rfl (by decide +kernel) ⟨Nat.le_of_ble_eq_true rfl, Nat.le_of_ble_eq_true rfl⟩) hK hP hD hS hA (ci := 0) rfl rfl rfl hl.1 rfl (Nat.le_of_ble_eq_true rfl) dX0_most_2 ⟨Nat.le_refl _, Nat.le_refl _⟩ (fun r u H locs hw hP hD hS => ?_)
  have hP : va_P D vwCl (xw d h cnt nd sn fr to lo hi ta he ro fl bY qu) H := hP
  have hD : va_D A (xw d h cnt nd sn fr to lo hi ta he ro fl bY qu) := hD
  refine lv_if_eq (tgt := 11) hx hb dX0_most_5 (by decide) (fun c1 => ?_) (fun c1 => ?_)
  · have q : cr_ia n a := by
      unfold cr_ia
      by_cases z : 0 ≤ a.toInt ∧ a.toInt < n
      · exact z
      · rw [if_neg z] at hw; rw [hw] at c1; exact absurd c1 (by decide)
    have hn12 := hAr.1
    obtain ⟨k, hk, rfl⟩ := cr_ofI q (by omega)
    refine lv_aload_n hx hb dX0_most_11 rfl (lv_at hl 0 rfl) ?_
    refine cr_selfv (As := []) (rest := []) ⟨hx, hb, hml, hown, hts⟩ (metX0_build l D d h H.size cnt nd sn fr to lo hi ta he ro fl bY qu n hn hAr) (cwV 0 hts (lw_V q94 q96 qs1 q16 q97) rfl rfl rfl (by decide +kernel) ⟨Nat.le_of_ble_eq_true rfl, Nat.le_of_ble_eq_true rfl⟩) hK hP hD hS hA (ci := 0) rfl rfl rfl hl.1 rfl (Nat.le_of_ble_eq_true rfl) dX0_most_12 ⟨Nat.le_refl _, Nat.le_refl _⟩ (fun u H locs hw hP hD hS => ?_)
    obtain ⟨ta1, he1, ro1, fl1⟩ := u
    obtain ⟨hB, h0⟩ := hw
    have hB : cr_Bt n fr to lo hi ta1 he1 ro1 0 0 0 := hB
    have h0 : ∀ e, e < 25 → fl1 e = 0 := h0
    have hP : va_P D vwCl (xw d h cnt nd sn fr to lo hi ta1 he1 ro1 fl1 bY qu) H := hP
    have hD : va_D A (xw d h cnt nd sn fr to lo hi ta1 he1 ro1 fl1 bY qu) := hD
    have hE := cr_Bt_ends hAr hB cr_X0
    have hV := cr_Bt_val0 hAr hB cr_X0 h0
    refine lv_aload_n hx hb dX0_most_15 rfl (lv_at hl 0 rfl) ?_
    refine cr_selfv (As := []) (rest := []) ⟨hx, hb, hml, hown, hts⟩ (metX0_solve l D d h H.size cnt nd sn fr to lo hi ta1 he1 ro1 fl1 bY qu _ _ hE hV (cr_need_rng hAr hB).1 (cr_need_le hAr hB)) (cwV 0 hts (lw_V q102 q104 qs3 q16 q105) rfl rfl rfl (by decide +kernel) ⟨Nat.le_of_ble_eq_true rfl, Nat.le_of_ble_eq_true rfl⟩) hK hP hD hS hA (ci := 0) rfl rfl rfl hl.1 rfl (Nat.le_of_ble_eq_true rfl) dX0_most_16 ⟨Nat.le_refl _, Nat.le_refl _⟩ (fun u H locs hw hP hD hS => ?_)
    obtain ⟨nd1, sn1, f, bY1, qu1⟩ := u
    obtain ⟨hnd, hM⟩ := hw
    have hnd : nd1.toInt = cr_need ro1 := hnd
    have hM : cr_MA (cr_n ta1) (cr_n he1) ro1 fl1 (-1) 6 7 nd1 sn1 f := hM
    have hP : va_P D vwCl (xw d h cnt nd1 sn1 fr to lo hi ta1 he1 ro1 f bY1 qu1) H := hP
    have hD : va_D A (xw d h cnt nd1 sn1 fr to lo hi ta1 he1 ro1 f bY1 qu1) := hD
    obtain ⟨hF, hEn, hs0, hs1⟩ := cr_solved h0 hnd hM
    have hN1 := cr_need_le hAr hB
    refine lv_aload_n hx hb dX0_most_19 rfl (lv_at hl 0 rfl) ?_
    refine va_get (D := D) (ci := 0) (v := .int sn1) (C := RX0) (T := TX0) (N := 13) hx hb hts in_X0 hown hK hP 0 rfl rfl 10 (by decide) (hts _ q36) (fun _ h9 => h9) rfl dX0_most_20 ?_
    refine lv_aload_n hx hb dX0_most_23 rfl (lv_at hl 0 rfl) ?_
    refine va_get (D := D) (ci := 0) (v := .int nd1) (C := RX0) (T := TX0) (N := 13) hx hb hts in_X0 hown hK hP 0 rfl rfl 9 (by decide) (hts _ q35) (fun _ h9 => h9) rfl dX0_most_24 ?_
    refine lv_icmp_ge (tgt := 33) hx hb dX0_most_27 (by decide) (fun c2 => ?_) (fun c2 => ?_)
    · rw [Int32.le_iff_toInt_le] at c2
      have hsn : sn1.toInt = cr_need ro1 := by omega
      obtain ⟨e1, e2, e3, e4⟩ := hE k (by omega)
      obtain ⟨v1, v2, v3, v4⟩ := hF.1 k (by omega)
      have hne : cr_n he1 k ≠ cr_n ta1 k := by
        obtain ⟨b1, b2, -⟩ := hB.1 k hk
        show (he1 k).toNatClampNeg ≠ (ta1 k).toNatClampNeg
        rw [b1, b2]
        exact fun z => (hAr.2 k hk).2.2.2.2.1 z.symm
      refine lv_aload_n hx hb dX0_most_33 rfl (lv_at hl 0 rfl) ?_
      refine lv_aload_n hx hb dX0_most_34 rfl (lv_at hl 0 rfl) ?_
      refine va_get (D := D) (ci := 0) (v := .ref (h 6)) (C := RX0) (T := TX0) (N := 13) hx hb hts in_X0 hown hK hP 0 rfl rfl 6 (by decide) (hts _ q32) (fun _ h9 => h9) rfl dX0_most_35 ?_
      refine lv_iload_n hx hb dX0_most_38 rfl (lv_at hl 1 rfl) ?_
      refine va_iald hx hb hK hP 6 0 rfl rfl (vp_in_nI (show k < 25 by omega) (by decide)) dX0_most_39 ?_
      refine lv_topi (fun y9 ey9 => ?_)
      obtain rfl : y9 = he1 k := ey9.trans (congrArg he1 (nI_clamp (show k < 2 ^ 31 by omega)))
      refine lv_topi (fun y9 ey9 => ?_)
      obtain rfl : y9 = nI (cr_n he1 k) := ey9.trans (e2)
      refine lv_aload_n hx hb dX0_most_40 rfl (lv_at hl 0 rfl) ?_
      refine va_get (D := D) (ci := 0) (v := .ref (h 5)) (C := RX0) (T := TX0) (N := 13) hx hb hts in_X0 hown hK hP 0 rfl rfl 5 (by decide) (hts _ q31) (fun _ h9 => h9) rfl dX0_most_41 ?_
      refine lv_iload_n hx hb dX0_most_44 rfl (lv_at hl 1 rfl) ?_
      refine va_iald hx hb hK hP 5 0 rfl rfl (vp_in_nI (show k < 25 by omega) (by decide)) dX0_most_45 ?_
      refine lv_topi (fun y9 ey9 => ?_)
      obtain rfl : y9 = ta1 k := ey9.trans (congrArg ta1 (nI_clamp (show k < 2 ^ 31 by omega)))
      refine lv_topi (fun y9 ey9 => ?_)
      obtain rfl : y9 = nI (cr_n ta1 k) := ey9.trans (e1)
      refine lv_iload_n hx hb dX0_most_46 rfl (lv_at hl 1 rfl) ?_
      refine lv_aload_n hx hb dX0_most_47 rfl (lv_at hl 0 rfl) ?_
      refine va_get (D := D) (ci := 0) (v := .ref (h 7)) (C := RX0) (T := TX0) (N := 13) hx hb hts in_X0 hown hK hP 0 rfl rfl 7 (by decide) (hts _ q33) (fun _ h9 => h9) rfl dX0_most_48 ?_
      refine lv_iload_n hx hb dX0_most_51 rfl (lv_at hl 1 rfl) ?_
      refine va_iald hx hb hK hP 7 0 rfl rfl (vp_in_nI (show k < 25 by omega) (by decide)) dX0_most_52 ?_
      refine lv_topi (fun y9 ey9 => ?_)
      obtain rfl : y9 = ro1 k := ey9.trans (congrArg ro1 (nI_clamp (show k < 2 ^ 31 by omega)))
      refine lv_aload_n hx hb dX0_most_53 rfl (lv_at hl 0 rfl) ?_
      refine va_get (D := D) (ci := 0) (v := .ref (h 8)) (C := RX0) (T := TX0) (N := 13) hx hb hts in_X0 hown hK hP 0 rfl rfl 8 (by decide) (hts _ q34) (fun _ h9 => h9) rfl dX0_most_54 ?_
      refine lv_iload_n hx hb dX0_most_57 rfl (lv_at hl 1 rfl) ?_
      refine va_iald hx hb hK hP 8 0 rfl rfl (vp_in_nI (show k < 25 by omega) (by decide)) dX0_most_58 ?_
      refine lv_topi (fun y9 ey9 => ?_)
      obtain rfl : y9 = f k := ey9.trans (congrArg f (nI_clamp (show k < 2 ^ 31 by omega)))
      refine lv_isub hx hb dX0_most_59 ?_
      refine lv_topi (fun mm emm => ?_)
      have hmm : mm.toInt = (ro1 k).toInt - (f k).toInt := by rw [emm, fb_subI (by omega) (by omega)]
      refine cr_selfi (As := [.int (nI (cr_n he1 k)), .int (nI (cr_n ta1 k)), .int (nI k), .int mm]) (rest := []) ⟨hx, hb, hml, hown, hts⟩ (metX0_moveAll l D d h H.size cnt nd1 sn1 fr to lo hi ta1 he1 ro1 f bY1 qu1 (cr_n ta1) (cr_n he1) (cr_n he1 k) (cr_n ta1 k) (nI k) mm hE hF.1 e4 e3 (fun z => hne z.symm) (by omega) (by omega)) (cwV 4 hts (lw_V q106 q108 qs4 q16 q109) rfl rfl rfl (by decide +kernel) ⟨Nat.le_of_ble_eq_true rfl, Nat.le_of_ble_eq_true rfl⟩) hK hP hD hS hA (ci := 0) rfl rfl rfl hl.1 rfl (Nat.le_of_ble_eq_true rfl) dX0_most_60 ⟨Nat.le_refl _, Nat.le_refl _⟩ (fun r u H locs hw hP hD hS => ?_)
      obtain ⟨f2, bY2, qu2⟩ := u
      obtain ⟨m1, m2, m3, m4, m5, m6⟩ := hw
      have hP : va_P D vwCl (xw d h cnt nd1 sn1 fr to lo hi ta1 he1 ro1 f2 bY2 qu2) H := hP
      have hD : va_D A (xw d h cnt nd1 sn1 fr to lo hi ta1 he1 ro1 f2 bY2 qu2) := hD
      have m4 : f2 k = f k := m4 k (by omega) rfl
      have m3 : cr_Val (cr_n ta1) (cr_n he1) ro1 f2 := m3
      obtain ⟨-, -, -, -, -, a1, a2, a3⟩ := hAr.2 k hk
      have a1 : 0 ≤ (lo k).toInt := a1
      have a4 : (lo k).toInt ≤ 20 := by have : (lo k).toInt ≤ cr_i hi k := a2; omega
      have hfk : (f2 k).toInt = (f k).toInt := by rw [m4]
      refine lv_istore_n (lv' := [(2, .int r), (0, .ref (h 0)), (1, .int (nI k))]) hx hb dX0_most_63 rfl hl (by decide) rfl (fun ls hl => ?_)
      refine lv_aload_n hx hb dX0_most_64 rfl (lv_at hl 1 rfl) ?_
      refine va_get (D := D) (ci := 0) (v := .ref (h 3)) (C := RX0) (T := TX0) (N := 13) hx hb hts in_X0 hown hK hP 0 rfl rfl 3 (by decide) (hts _ q29) (fun _ h9 => h9) rfl dX0_most_65 ?_
      refine lv_iload_n hx hb dX0_most_68 rfl (lv_at hl 2 rfl) ?_
      refine va_iald hx hb hK hP 3 0 rfl rfl (vp_in_nI (show k < 12 by omega) (by decide)) dX0_most_69 ?_
      refine lv_topi (fun y9 ey9 => ?_)
      obtain rfl : y9 = lo k := ey9.trans (congrArg lo (nI_clamp (show k < 2 ^ 31 by omega)))
      refine lv_aload_n hx hb dX0_most_70 rfl (lv_at hl 1 rfl) ?_
      refine va_get (D := D) (ci := 0) (v := .ref (h 8)) (C := RX0) (T := TX0) (N := 13) hx hb hts in_X0 hown hK hP 0 rfl rfl 8 (by decide) (hts _ q34) (fun _ h9 => h9) rfl dX0_most_71 ?_
      refine lv_iload_n hx hb dX0_most_74 rfl (lv_at hl 2 rfl) ?_
      refine va_iald hx hb hK hP 8 0 rfl rfl (vp_in_nI (show k < 25 by omega) (by decide)) dX0_most_75 ?_
      refine lv_topi (fun y9 ey9 => ?_)
      obtain rfl : y9 = f2 k := ey9.trans (congrArg f2 (nI_clamp (show k < 2 ^ 31 by omega)))
      refine lv_iadd hx hb dX0_most_76 ?_
      refine lv_iload_n hx hb dX0_most_77 rfl (lv_at hl 0 rfl) ?_
      refine lv_iadd hx hb dX0_most_78 ?_
      refine lv_topi (fun z9 ez9 => ?_)
      have hq1 : (lo k + f2 k).toInt = (lo k).toInt + (f2 k).toInt := fb_addI (by omega) (by omega)
      have hz : z9.toInt = (lo k).toInt + (f2 k).toInt + r.toInt := by rw [ez9, fb_addI (by omega) (by omega), hq1]
      have hst : r.toInt = cr_i ro1 k - cr_i f2 k ∨ ∃ S : Nat → Bool, S (cr_n he1 k) = true ∧ S (cr_n ta1 k) = false ∧ ∀ e, e < 25 → e ≠ k → cr_tight (cr_n ta1) (cr_n he1) (cr_i ro1) (cr_i f2) S e := by
        rcases m6 with m6 | ⟨S, s1, s2, s3⟩
        · exact Or.inl (by rw [m6]; show mm.toInt = (ro1 k).toInt - (f2 k).toInt; omega)
        · exact Or.inr ⟨S, s1, s2, fun e he hn3 => s3 e he (fun z => hn3 (cr_eq (by omega) (by omega) z))⟩
      exact cr_iret (nd1, sn1, ta1, he1, ro1, f2, bY2, qu2) hx hb hr hlocks hK hP hD hS dX0_most_79 (Or.inr ⟨k, hk, rfl, cr_x_most (F := cr_i f2) (c := r.toInt) hAr hB hk (fun e he => ⟨(m3 e he).1, (m3 e he).2.1⟩) (fun p => by rw [← hsn, ← hF.2 p]; exact m5 p) m1 (show r.toInt ≤ (ro1 k).toInt - (f2 k).toInt by omega) hst hz⟩)
    · rw [Int32.le_iff_toInt_le] at c2
      refine lv_bipush (v := (-5)) hx hb dX0_most_30 (by decide) ?_
      exact cr_iret (nd1, sn1, ta1, he1, ro1, f, bY1, qu1) hx hb hr hlocks hK hP hD hS dX0_most_32 (Or.inr ⟨k, hk, rfl, Or.inl ⟨rfl, cr_x_none hAr hB hF.flo hEn (by omega) k⟩⟩)
  · have q : ¬ cr_ia n a := by
      unfold cr_ia
      intro z
      rw [if_pos z] at hw
      exact c1 hw
    refine lv_bipush (v := (-4)) hx hb dX0_most_8 (by decide) ?_
    exact cr_iret (nd, sn, ta, he, ro, fl, bY, qu) hx hb hr hlocks hK hP hD hS dX0_most_10 (Or.inl ⟨q, rfl⟩)
set_option maxHeartbeats 4000000 in
set_option maxRecDepth 100000 in
/-- through(s, t) -/
theorem metX0_through (l : Launch) (D : va_G) (d : ClassId) (h : Nat → Nat) (sz : Nat) (cnt nd sn : Int32) (fr to lo hi ta he ro fl bY qu : Nat → Int32) (n : Nat) (hn : cnt = nI n) (hAr : cr_Arcs n fr to lo hi) (s9 t9 : Int32) : cr_Mi l D d (xw d h cnt nd sn fr to lo hi ta he ro fl bY qu) sz yX0_through cX0_through 4 (some .int) 4 98 [.ref (h 0), .int s9, .int t9] (S := Int32 × Int32 × (Nat → Int32) × (Nat → Int32) × (Nat → Int32) × (Nat → Int32) × (Nat → Int32) × (Nat → Int32)) (fun r _ => (¬ cr_gv s9 t9 ∧ r = -1) ∨ (cr_gv s9 t9 ∧ ∃ s t, s < 6 ∧ t < 6 ∧ s9 = nI s ∧ t9 = nI t ∧ cr_PT (cr_n fr) (cr_n to) (cr_i lo) (cr_i hi) n s t r)) (fun u => xw d h cnt u.1 u.2.1 fr to lo hi u.2.2.1 u.2.2.2.1 u.2.2.2.2.1 u.2.2.2.2.2.1 u.2.2.2.2.2.2.1 u.2.2.2.2.2.2.2) := by
  refine cr_begin (Qc := fun A => va_Qi _ (cr_Bh D d A _) A) (by decide) (Nat.le_of_ble_eq_true rfl) ?_
  intro p env s m below meth c A ls hx hb hr hml hts hown hlocks hA hP hK hD hS hl
  have hown : s.vm.findClass RX0 = some m.cls := hown
  have hl : lv_has ls 4 [(0, .ref (h 0)), (1, .int s9), (2, .int t9)] := hl
  refine lv_iload_n hx hb dX0_through_0 rfl (lv_at hl 1 rfl) ?_
  refine cr_stati (As := [.int s9]) (rest := []) ⟨hx, hb, hml, hown, hts⟩ (metX0_badVertex l D d s.heap.size s9) (va_cwS 1 hts (lw_S q71 q72 q16 q73) rfl rfl rfl (by decide +kernel) ⟨Nat.le_of_ble_eq_true rfl, Nat.le_of_ble_eq_true rfl⟩) hK hP hS hA rfl hl.1 rfl (Nat.le_of_ble_eq_true rfl) dX0_through_1 ⟨Nat.le_refl _, Nat.le_refl _⟩ (fun r1 H locs hw hP hS => ?_)
  have hP : va_P D vwCl (xw d h cnt nd sn fr to lo hi ta he ro fl bY qu) H := hP
  refine lv_if_ne (tgt := 19) hx hb dX0_through_4 (by decide) (fun cp1 => ?_) (fun cp1 => ?_)
  · have p1 : ¬ (0 ≤ s9.toInt ∧ s9.toInt < 6) := by
      intro z
      rw [if_pos z] at hw
      exact cp1 hw
    refine lv_iconst (v := (-1)) hx hb dX0_through_19 (by decide) ?_
    exact cr_iret (nd, sn, ta, he, ro, fl, bY, qu) hx hb hr hlocks hK hP hD hS dX0_through_20 (Or.inl ⟨fun z => p1 z.1, rfl⟩)
  · have p1 : 0 ≤ s9.toInt ∧ s9.toInt < 6 := by
      by_cases z : 0 ≤ s9.toInt ∧ s9.toInt < 6
      · exact z
      · rw [if_neg z] at hw; rw [hw] at cp1; exact absurd cp1 (by decide)
    refine lv_iload_n hx hb dX0_through_7 rfl (lv_at hl 2 rfl) ?_
    refine cr_stati (As := [.int t9]) (rest := []) ⟨hx, hb, hml, hown, hts⟩ (metX0_badVertex l D d H.size t9) (va_cwS 1 hts (lw_S q71 q72 q16 q73) rfl rfl rfl (by decide +kernel) ⟨Nat.le_of_ble_eq_true rfl, Nat.le_of_ble_eq_true rfl⟩) hK hP hS hA rfl hl.1 rfl (Nat.le_of_ble_eq_true rfl) dX0_through_8 ⟨Nat.le_refl _, Nat.le_refl _⟩ (fun r2 H locs hw hP hS => ?_)
    have hP : va_P D vwCl (xw d h cnt nd sn fr to lo hi ta he ro fl bY qu) H := hP
    refine lv_if_ne (tgt := 19) hx hb dX0_through_11 (by decide) (fun cp2 => ?_) (fun cp2 => ?_)
    · have p2 : ¬ (0 ≤ t9.toInt ∧ t9.toInt < 6) := by
        intro z
        rw [if_pos z] at hw
        exact cp2 hw
      refine lv_iconst (v := (-1)) hx hb dX0_through_19 (by decide) ?_
      exact cr_iret (nd, sn, ta, he, ro, fl, bY, qu) hx hb hr hlocks hK hP hD hS dX0_through_20 (Or.inl ⟨fun z => p2 z.2.1, rfl⟩)
    · have p2 : 0 ≤ t9.toInt ∧ t9.toInt < 6 := by
        by_cases z : 0 ≤ t9.toInt ∧ t9.toInt < 6
        · exact z
        · rw [if_neg z] at hw; rw [hw] at cp2; exact absurd cp2 (by decide)
      refine lv_iload_n hx hb dX0_through_14 rfl (lv_at hl 1 rfl) ?_
      refine lv_iload_n hx hb dX0_through_15 rfl (lv_at hl 2 rfl) ?_
      refine lv_icmp_ne (tgt := 21) hx hb dX0_through_16 (by decide) (fun c3 => ?_) (fun c3 => ?_)
      · have hv : cr_gv s9 t9 := ⟨p1, p2, c3⟩
        have hn12 := hAr.1
        obtain ⟨v, hv6, rfl⟩ := cr_ofI (n := 6) p1 (by decide)
        obtain ⟨w, hw6, rfl⟩ := cr_ofI (n := 6) p2 (by decide)
        have hvw : v ≠ w := cr_ne (by omega) (by omega) c3
        refine lv_aload_n hx hb dX0_through_21 rfl (lv_at hl 0 rfl) ?_
        refine cr_selfv (As := []) (rest := []) ⟨hx, hb, hml, hown, hts⟩ (metX0_build l D d h H.size cnt nd sn fr to lo hi ta he ro fl bY qu n hn hAr) (cwV 0 hts (lw_V q94 q96 qs1 q16 q97) rfl rfl rfl (by decide +kernel) ⟨Nat.le_of_ble_eq_true rfl, Nat.le_of_ble_eq_true rfl⟩) hK hP hD hS hA (ci := 0) rfl rfl rfl hl.1 rfl (Nat.le_of_ble_eq_true rfl) dX0_through_22 ⟨Nat.le_refl _, Nat.le_refl _⟩ (fun u H locs hw hP hD hS => ?_)
        obtain ⟨ta1, he1, ro1, fl1⟩ := u
        obtain ⟨hB, h0⟩ := hw
        have hB : cr_Bt n fr to lo hi ta1 he1 ro1 0 0 0 := hB
        have h0 : ∀ e, e < 25 → fl1 e = 0 := h0
        have hP : va_P D vwCl (xw d h cnt nd sn fr to lo hi ta1 he1 ro1 fl1 bY qu) H := hP
        have hD : va_D A (xw d h cnt nd sn fr to lo hi ta1 he1 ro1 fl1 bY qu) := hD
        refine lv_aload_n hx hb dX0_through_25 rfl (lv_at hl 0 rfl) ?_
        refine lv_bipush (v := (nI 12)) hx hb dX0_through_26 (by decide) ?_
        refine lv_iload_n hx hb dX0_through_28 rfl (lv_at hl 2 rfl) ?_
        refine lv_iload_n hx hb dX0_through_29 rfl (lv_at hl 1 rfl) ?_
        refine lv_sipush (v := (nI 240)) hx hb dX0_through_30 (by decide) ?_
        refine cr_selfv (As := [.int (nI 12), .int (nI w), .int (nI v), .int (nI 240)]) (rest := []) ⟨hx, hb, hml, hown, hts⟩ (metX0_setEdge l D d h H.size cnt nd sn fr to lo hi ta1 he1 ro1 fl1 bY qu 12 (nI w) (nI v) (nI 240) (by decide)) (cwV 4 hts (lw_V q98 q100 qs2 q16 q101) rfl rfl rfl (by decide +kernel) ⟨Nat.le_of_ble_eq_true rfl, Nat.le_of_ble_eq_true rfl⟩) hK hP hD hS hA (ci := 0) rfl rfl rfl hl.1 rfl (Nat.le_of_ble_eq_true rfl) dX0_through_33 ⟨Nat.le_refl _, Nat.le_refl _⟩ (fun u H locs hw hP hD hS => ?_)
        have hB := cr_Bt_set v w hn12 hB
        have h0 : ∀ e, e < 25 → upd fl1 12 (nI 0) e = 0 := by
          intro e he
          by_cases z : e = 12
          · rw [z, pk_us]; rfl
          · rw [pk_un z]; exact h0 e he
        have hX : cr_X w v 240 := ⟨hw6, hv6, by decide, by decide, fun z => absurd z.symm hvw⟩
        have hP : va_P D vwCl (xw d h cnt nd sn fr to lo hi (upd ta1 12 (nI w)) (upd he1 12 (nI v)) (upd ro1 12 (nI 240)) (upd fl1 12 (nI 0)) bY qu) H := hP
        have hD : va_D A (xw d h cnt nd sn fr to lo hi (upd ta1 12 (nI w)) (upd he1 12 (nI v)) (upd ro1 12 (nI 240)) (upd fl1 12 (nI 0)) bY qu) := hD
        generalize upd ta1 12 (nI w) = ta2 at hB hP hD
        generalize upd he1 12 (nI v) = he2 at hB hP hD
        generalize upd ro1 12 (nI 240) = ro2 at hB hP hD
        generalize upd fl1 12 (nI 0) = fl2 at h0 hP hD
        have hE := cr_Bt_ends hAr hB hX
        have hV := cr_Bt_val0 hAr hB hX h0
        refine lv_aload_n hx hb dX0_through_36 rfl (lv_at hl 0 rfl) ?_
        refine cr_selfv (As := []) (rest := []) ⟨hx, hb, hml, hown, hts⟩ (metX0_solve l D d h H.size cnt nd sn fr to lo hi ta2 he2 ro2 fl2 bY qu _ _ hE hV (cr_need_rng hAr hB).1 (cr_need_le hAr hB)) (cwV 0 hts (lw_V q102 q104 qs3 q16 q105) rfl rfl rfl (by decide +kernel) ⟨Nat.le_of_ble_eq_true rfl, Nat.le_of_ble_eq_true rfl⟩) hK hP hD hS hA (ci := 0) rfl rfl rfl hl.1 rfl (Nat.le_of_ble_eq_true rfl) dX0_through_37 ⟨Nat.le_refl _, Nat.le_refl _⟩ (fun u H locs hw hP hD hS => ?_)
        obtain ⟨nd1, sn1, f, bY1, qu1⟩ := u
        obtain ⟨hnd, hM⟩ := hw
        have hnd : nd1.toInt = cr_need ro2 := hnd
        have hM : cr_MA (cr_n ta2) (cr_n he2) ro2 fl2 (-1) 6 7 nd1 sn1 f := hM
        have hP : va_P D vwCl (xw d h cnt nd1 sn1 fr to lo hi ta2 he2 ro2 f bY1 qu1) H := hP
        have hD : va_D A (xw d h cnt nd1 sn1 fr to lo hi ta2 he2 ro2 f bY1 qu1) := hD
        obtain ⟨hF, hEn, hs0, hs1⟩ := cr_solved h0 hnd hM
        have hN1 := cr_need_le hAr hB
        refine lv_aload_n hx hb dX0_through_40 rfl (lv_at hl 0 rfl) ?_
        refine va_get (D := D) (ci := 0) (v := .int sn1) (C := RX0) (T := TX0) (N := 13) hx hb hts in_X0 hown hK hP 0 rfl rfl 10 (by decide) (hts _ q36) (fun _ h9 => h9) rfl dX0_through_41 ?_
        refine lv_aload_n hx hb dX0_through_44 rfl (lv_at hl 0 rfl) ?_
        refine va_get (D := D) (ci := 0) (v := .int nd1) (C := RX0) (T := TX0) (N := 13) hx hb hts in_X0 hown hK hP 0 rfl rfl 9 (by decide) (hts _ q35) (fun _ h9 => h9) rfl dX0_through_45 ?_
        refine lv_icmp_ge (tgt := 54) hx hb dX0_through_48 (by decide) (fun c4 => ?_) (fun c4 => ?_)
        · rw [Int32.le_iff_toInt_le] at c4
          have hsn : sn1.toInt = cr_need ro2 := by omega
          obtain ⟨v1, v2, v3, v4⟩ := hF.1 12 (by decide)
          have r12 : (ro2 12).toInt = 240 := hB.2.2.1.2.2
          refine lv_aload_n hx hb dX0_through_54 rfl (lv_at hl 0 rfl) ?_
          refine lv_iload_n hx hb dX0_through_55 rfl (lv_at hl 1 rfl) ?_
          refine lv_iload_n hx hb dX0_through_56 rfl (lv_at hl 2 rfl) ?_
          refine lv_bipush (v := (nI 12)) hx hb dX0_through_57 (by decide) ?_
          refine lv_sipush (v := (nI 240)) hx hb dX0_through_59 (by decide) ?_
          refine lv_aload_n hx hb dX0_through_62 rfl (lv_at hl 0 rfl) ?_
          refine va_get (D := D) (ci := 0) (v := .ref (h 8)) (C := RX0) (T := TX0) (N := 13) hx hb hts in_X0 hown hK hP 0 rfl rfl 8 (by decide) (hts _ q34) (fun _ h9 => h9) rfl dX0_through_63 ?_
          refine lv_bipush (v := (nI 12)) hx hb dX0_through_66 (by decide) ?_
          refine va_iald hx hb hK hP 8 0 rfl rfl (vp_in_nI (show 12 < 25 by omega) (by decide)) dX0_through_68 ?_
          refine lv_topi (fun y9 ey9 => ?_)
          obtain rfl : y9 = f 12 := ey9.trans (congrArg f (nI_clamp (show 12 < 2 ^ 31 by omega)))
          refine lv_isub hx hb dX0_through_69 ?_
          refine lv_topi (fun mm emm => ?_)
          have hmm : mm.toInt = 240 - (f 12).toInt := by rw [emm, fb_subI (by rw [show (nI 240).toInt = 240 from rfl]; omega) (by rw [show (nI 240).toInt = 240 from rfl]; omega)]; rfl
          refine cr_selfi (As := [.int (nI v), .int (nI w), .int (nI 12), .int mm]) (rest := []) ⟨hx, hb, hml, hown, hts⟩ (metX0_moveAll l D d h H.size cnt nd1 sn1 fr to lo hi ta2 he2 ro2 f bY1 qu1 (cr_n ta2) (cr_n he2) v w (nI 12) mm hE hF.1 (by omega) (by omega) (fun z => hvw z.symm) (by omega) (by omega)) (cwV 4 hts (lw_V q106 q108 qs4 q16 q109) rfl rfl rfl (by decide +kernel) ⟨Nat.le_of_ble_eq_true rfl, Nat.le_of_ble_eq_true rfl⟩) hK hP hD hS hA (ci := 0) rfl rfl rfl hl.1 rfl (Nat.le_of_ble_eq_true rfl) dX0_through_70 ⟨Nat.le_refl _, Nat.le_refl _⟩ (fun r u H locs hw hP hD hS => ?_)
          obtain ⟨f2, bY2, qu2⟩ := u
          obtain ⟨m1, m2, m3, m4, m5, m6⟩ := hw
          have hP : va_P D vwCl (xw d h cnt nd1 sn1 fr to lo hi ta2 he2 ro2 f2 bY2 qu2) H := hP
          have hD : va_D A (xw d h cnt nd1 sn1 fr to lo hi ta2 he2 ro2 f2 bY2 qu2) := hD
          have m4 : f2 12 = f 12 := m4 12 (by decide) rfl
          have m3 : cr_Val (cr_n ta2) (cr_n he2) ro2 f2 := m3
          have hfk : (f2 12).toInt = (f 12).toInt := by rw [m4]
          refine lv_istore_n (lv' := [(3, .int r), (0, .ref (h 0)), (1, .int (nI v)), (2, .int (nI w))]) hx hb dX0_through_73 rfl hl (by decide) rfl (fun ls hl => ?_)
          refine lv_aload_n hx hb dX0_through_74 rfl (lv_at hl 1 rfl) ?_
          refine va_get (D := D) (ci := 0) (v := .ref (h 8)) (C := RX0) (T := TX0) (N := 13) hx hb hts in_X0 hown hK hP 0 rfl rfl 8 (by decide) (hts _ q34) (fun _ h9 => h9) rfl dX0_through_75 ?_
          refine lv_bipush (v := (nI 12)) hx hb dX0_through_78 (by decide) ?_
          refine va_iald hx hb hK hP 8 0 rfl rfl (vp_in_nI (show 12 < 25 by omega) (by decide)) dX0_through_80 ?_
          refine lv_topi (fun y9 ey9 => ?_)
          obtain rfl : y9 = f2 12 := ey9.trans (congrArg f2 (nI_clamp (show 12 < 2 ^ 31 by omega)))
          refine lv_iload_n hx hb dX0_through_81 rfl (lv_at hl 0 rfl) ?_
          refine lv_iadd hx hb dX0_through_82 ?_
          refine lv_topi (fun z9 ez9 => ?_)
          have hz : z9.toInt = (f2 12).toInt + r.toInt := by rw [ez9, fb_addI (by omega) (by omega)]
          have hst : r.toInt = 240 - cr_i f2 12 ∨ ∃ S : Nat → Bool, S v = true ∧ S w = false ∧ ∀ e, e < 25 → e ≠ 12 → cr_tight (cr_n ta2) (cr_n he2) (cr_i ro2) (cr_i f2) S e := by
            rcases m6 with m6 | ⟨S, s1, s2, s3⟩
            · exact Or.inl (by rw [m6]; show mm.toInt = 240 - (f2 12).toInt; omega)
            · exact Or.inr ⟨S, s1, s2, fun e he hn3 => s3 e he (fun z => hn3 (cr_eq (by omega) (by decide) z))⟩
          exact cr_iret (nd1, sn1, ta2, he2, ro2, f2, bY2, qu2) hx hb hr hlocks hK hP hD hS dX0_through_83 (Or.inr ⟨hv, v, w, hv6, hw6, rfl, rfl, cr_x_through (F := cr_i f2) (c := r.toInt) hAr hB hX (fun e he => ⟨(m3 e he).1, (m3 e he).2.1⟩) (fun p => by rw [← hsn, ← hF.2 p]; exact m5 p) m1 (show r.toInt ≤ 240 - (f2 12).toInt by omega) hst hz⟩)
        · rw [Int32.le_iff_toInt_le] at c4
          refine lv_bipush (v := (-5)) hx hb dX0_through_51 (by decide) ?_
          exact cr_iret (nd1, sn1, ta2, he2, ro2, f, bY1, qu1) hx hb hr hlocks hK hP hD hS dX0_through_53 (Or.inr ⟨hv, v, w, hv6, hw6, rfl, rfl, Or.inl ⟨rfl, cr_x_noneT hAr hB hX hF.flo hEn (by omega)⟩⟩)
      · refine lv_iconst (v := (-1)) hx hb dX0_through_19 (by decide) ?_
        exact cr_iret (nd, sn, ta, he, ro, fl, bY, qu) hx hb hr hlocks hK hP hD hS dX0_through_20 (Or.inl ⟨fun z => z.2.2 c3, rfl⟩)
end
section
/-! MODULE CirculationRangeModel: leaves, lackOf, worst -/
theorem cr_sl6 : ∀ i, i < 6 → ((nI i &&& 31).toBitVec.smod 32).toNat = i := by decide +kernel
/-- the arrays of the model, the first na places of them -/
def cr_MOK (na : Nat) (mt mh ml mi : Nat → Int32) : Prop := ∀ a, a < na → mt a = nI (cr_n mt a) ∧ mh a = nI (cr_n mh a) ∧ cr_n mt a < 6 ∧ cr_n mh a < 6 ∧ 0 ≤ (ml a).toInt ∧ (ml a).toInt ≤ 240 ∧ 0 ≤ (mi a).toInt ∧ (mi a).toInt ≤ 240
abbrev cr_mlk (mt mh ml mi : Nat → Int32) (k na : Nat) : Int := cr_lk (cr_n mt) (cr_n mh) (cr_i ml) (cr_i mi) (cr_tb k) na
def cr_01 (b : Bool) : Int32 := if b = true then nI 1 else nI 0
theorem cr_tbit {k T : Nat} (hk : k < 64) (hT : T < 6) : (nI k >>> (nI T &&& 31)) &&& nI 1 = cr_01 (cr_tb k T) := by
  rw [pk_shrN (by omega) _ T (cr_sl6 T hT)]
  have hd : k / 2 ^ T < 64 := Nat.lt_of_le_of_lt (Nat.div_le_self _ _) hk
  have h : nI (k / 2 ^ T) &&& nI 1 = nI (k / 2 ^ T % 2 ^ 1) := pk_andN (by omega) 1 (by decide)
  rw [h]
  unfold cr_01 cr_tb
  rw [Nat.testBit_eq_decide_div_mod_eq]
  by_cases q : k / 2 ^ T % 2 = 1
  · rw [decide_eq_true q, if_pos rfl, show k / 2 ^ T % 2 ^ 1 = 1 by omega]
  · rw [decide_eq_false q, if_neg (by decide), show k / 2 ^ T % 2 ^ 1 = 0 by omega]
theorem cr_01_0 {b : Bool} (h : cr_01 b = 0) : b = false := by
  cases b
  · rfl
  · exact absurd h (by decide)
theorem cr_01_1 {b : Bool} (h : ¬ cr_01 b = 0) : b = true := by
  cases b
  · exact absurd rfl h
  · rfl
theorem cr_mlk_rng {na : Nat} {mt mh ml mi : Nat → Int32} (h : cr_MOK na mt mh ml mi) (k : Nat) {a : Nat} (ha : a ≤ na) : -((a : Int) * 240) ≤ cr_mlk mt mh ml mi k a ∧ cr_mlk mt mh ml mi k a ≤ (a : Int) * 240 := by
  refine fb_si_bound (by decide) (fun j hj => ?_)
  obtain ⟨-, -, -, -, h1, h2, h3, h4⟩ := h j (by omega)
  have e1 : cr_i ml j = (ml j).toInt := rfl
  have e2 : cr_i mi j = (mi j).toInt := rfl
  unfold cr_lt
  split
  · omega
  · split <;> omega
theorem cr_lk_0 (mt mh ml mi : Nat → Int32) (na : Nat) : cr_mlk mt mh ml mi 0 na = 0 := cr_lk_empty (fun a _ => by
  show Nat.testBit 0 _ = Nat.testBit 0 _
  rw [Nat.zero_testBit, Nat.zero_testBit])
set_option maxHeartbeats 4000000 in
set_option maxRecDepth 100000 in
/-- isVertex(v) -/
theorem metX1_isVertex (l : Launch) (D : va_G) (d : ClassId) (h : Nat → Nat) (sz : Nat) (n : Nat) (mt mh ml mi : Nat → Int32) (v : Int32) : cr_Mi l D d (mw d h (nI n) mt mh ml mi) sz yX1_isVertex cX1_isVertex 2 (some .boolean) 0 0 [.ref (h 0), .int v] (S := Unit) (fun r _ => r = if 0 ≤ v.toInt ∧ v.toInt < 6 then 1 else 0) (fun _ => mw d h (nI n) mt mh ml mi) := by
  refine cr_begin (Qc := fun A => va_Qi _ (cr_Bh D d A _) A) (by decide) (Nat.le_of_ble_eq_true rfl) ?_
  intro p env s m below meth c A ls hx hb hr hml hts hown hlocks hA hP hK hD hS hl
  have hown : s.vm.findClass RX1 = some m.cls := hown
  have hl : lv_has ls 2 [(0, .ref (h 0)), (1, .int v)] := hl
  refine lv_iload_n hx hb dX1_isVertex_0 rfl (lv_at hl 1 rfl) ?_
  refine lv_if_lt (tgt := 13) hx hb dX1_isVertex_1 (by decide) (fun c1 => ?_) (fun c1 => ?_)
  · refine lv_iconst (v := (nI 0)) hx hb dX1_isVertex_13 (by decide) ?_
    have q : ¬ (0 ≤ v.toInt ∧ v.toInt < 6) := by
      (try rw [cr_lt0] at c1)
      (try rw [Int32.lt_iff_toInt_lt, show (nI 5).toInt = 5 from rfl] at c2)
      omega
    exact cr_zret () hx hb hr hlocks rfl hK hP hD hS dX1_isVertex_14 (by rw [if_neg q]; rfl)
  · refine lv_iload_n hx hb dX1_isVertex_4 rfl (lv_at hl 1 rfl) ?_
    refine lv_iconst (v := (nI 5)) hx hb dX1_isVertex_5 (by decide) ?_
    refine lv_icmp_gt (tgt := 13) hx hb dX1_isVertex_6 (by decide) (fun c2 => ?_) (fun c2 => ?_)
    · refine lv_iconst (v := (nI 0)) hx hb dX1_isVertex_13 (by decide) ?_
      have q : ¬ (0 ≤ v.toInt ∧ v.toInt < 6) := by
        (try rw [cr_lt0] at c1)
        (try rw [Int32.lt_iff_toInt_lt, show (nI 5).toInt = 5 from rfl] at c2)
        omega
      exact cr_zret () hx hb hr hlocks rfl hK hP hD hS dX1_isVertex_14 (by rw [if_neg q]; rfl)
    · refine lv_iconst (v := (nI 1)) hx hb dX1_isVertex_9 (by decide) ?_
      refine lv_goto (tgt := 14) hx hb dX1_isVertex_10 (by decide) ?_
      have q : 0 ≤ v.toInt ∧ v.toInt < 6 := by
        rw [cr_lt0] at c1
        rw [Int32.lt_iff_toInt_lt, show (nI 5).toInt = 5 from rfl] at c2
        omega
      exact cr_zret () hx hb hr hlocks rfl hK hP hD hS dX1_isVertex_14 (by rw [if_pos q]; rfl)
set_option maxHeartbeats 4000000 in
set_option maxRecDepth 100000 in
/-- isArc(a) -/
theorem metX1_isArc (l : Launch) (D : va_G) (d : ClassId) (h : Nat → Nat) (sz : Nat) (n : Nat) (mt mh ml mi : Nat → Int32) (a : Int32) (hn2 : n < 2 ^ 31) : cr_Mi l D d (mw d h (nI n) mt mh ml mi) sz yX1_isArc cX1_isArc 2 (some .boolean) 0 0 [.ref (h 0), .int a] (S := Unit) (fun r _ => r = if 0 ≤ a.toInt ∧ a.toInt < n then 1 else 0) (fun _ => mw d h (nI n) mt mh ml mi) := by
  refine cr_begin (Qc := fun A => va_Qi _ (cr_Bh D d A _) A) (by decide) (Nat.le_of_ble_eq_true rfl) ?_
  intro p env s m below meth c A ls hx hb hr hml hts hown hlocks hA hP hK hD hS hl
  have hown : s.vm.findClass RX1 = some m.cls := hown
  have hl : lv_has ls 2 [(0, .ref (h 0)), (1, .int a)] := hl
  refine lv_iload_n hx hb dX1_isArc_0 rfl (lv_at hl 1 rfl) ?_
  refine lv_if_lt (tgt := 16) hx hb dX1_isArc_1 (by decide) (fun c1 => ?_) (fun c1 => ?_)
  · refine lv_iconst (v := (nI 0)) hx hb dX1_isArc_16 (by decide) ?_
    have q : ¬ (0 ≤ a.toInt ∧ a.toInt < n) := by
      (try rw [cr_lt0] at c1)
      (try rw [Int32.le_iff_toInt_le, nI_toInt hn2] at c2)
      omega
    exact cr_zret () hx hb hr hlocks rfl hK hP hD hS dX1_isArc_17 (by rw [if_neg q]; rfl)
  · refine lv_iload_n hx hb dX1_isArc_4 rfl (lv_at hl 1 rfl) ?_
    refine lv_aload_n hx hb dX1_isArc_5 rfl (lv_at hl 0 rfl) ?_
    refine va_get (D := D) (ci := 1) (v := .int (nI n)) (C := RX1) (T := TX1) (N := 5) hx hb hts in_X1 hown hK hP 0 rfl rfl 4 (by decide) (hts _ q160) (fun _ h9 => h9) rfl dX1_isArc_6 ?_
    refine lv_icmp_ge (tgt := 16) hx hb dX1_isArc_9 (by decide) (fun c2 => ?_) (fun c2 => ?_)
    · refine lv_iconst (v := (nI 0)) hx hb dX1_isArc_16 (by decide) ?_
      have q : ¬ (0 ≤ a.toInt ∧ a.toInt < n) := by
        (try rw [cr_lt0] at c1)
        (try rw [Int32.le_iff_toInt_le, nI_toInt hn2] at c2)
        omega
      exact cr_zret () hx hb hr hlocks rfl hK hP hD hS dX1_isArc_17 (by rw [if_neg q]; rfl)
    · refine lv_iconst (v := (nI 1)) hx hb dX1_isArc_12 (by decide) ?_
      refine lv_goto (tgt := 17) hx hb dX1_isArc_13 (by decide) ?_
      have q : 0 ≤ a.toInt ∧ a.toInt < n := by
        rw [cr_lt0] at c1
        rw [Int32.le_iff_toInt_le, nI_toInt hn2] at c2
        omega
      exact cr_zret () hx hb hr hlocks rfl hK hP hD hS dX1_isArc_17 (by rw [if_pos q]; rfl)
set_option maxHeartbeats 4000000 in
set_option maxRecDepth 100000 in
/-- place(from, to, least, most) -/
theorem metX1_place (l : Launch) (D : va_G) (d : ClassId) (h : Nat → Nat) (sz : Nat) (n : Nat) (mt mh ml mi : Nat → Int32) (f9 t9 a9 m9 : Int32) (hn2 : n < 13) : cr_Mv l D d (mw d h (nI n) mt mh ml mi) sz yX1_place cX1_place 5 0 0 [.ref (h 0), .int f9, .int t9, .int a9, .int m9] (S := Unit) (fun _ => True) (fun _ => mw d h (nI n) (upd mt n f9) (upd mh n t9) (upd ml n a9) (upd mi n m9)) := by
  refine cr_begin (Qc := fun A => va_Qv _ (cr_Bh D d A _) A) (by decide) (Nat.le_of_ble_eq_true rfl) ?_
  intro p env s m below meth c A ls hx hb hr hml hts hown hlocks hA hP hK hD hS hl
  have hown : s.vm.findClass RX1 = some m.cls := hown
  have hl : lv_has ls 5 [(0, .ref (h 0)), (1, .int f9), (2, .int t9), (3, .int a9), (4, .int m9)] := hl
  refine lv_aload_n hx hb dX1_place_0 rfl (lv_at hl 0 rfl) ?_
  refine va_get (D := D) (ci := 1) (v := .ref (h 1)) (C := RX1) (T := TX1) (N := 5) hx hb hts in_X1 hown hK hP 0 rfl rfl 0 (by decide) (hts _ q156) (fun _ h9 => h9) rfl dX1_place_1 ?_
  refine lv_aload_n hx hb dX1_place_4 rfl (lv_at hl 0 rfl) ?_
  refine va_get (D := D) (ci := 1) (v := .int (nI n)) (C := RX1) (T := TX1) (N := 5) hx hb hts in_X1 hown hK hP 0 rfl rfl 4 (by decide) (hts _ q160) (fun _ h9 => h9) rfl dX1_place_5 ?_
  refine lv_iload_n hx hb dX1_place_8 rfl (lv_at hl 1 rfl) ?_
  refine va_iast hx hb hK hP hD hS 1 0 rfl rfl (vp_in_nI (show n < 13 by omega) (by decide)) dX1_place_9 (fun H locs hP hD hS => ?_)
  rw [nI_clamp (show n < 2 ^ 31 by omega)] at hP hD
  have hP : va_P D vwCl (mw d h (nI n) (upd mt n f9) mh ml mi) H := hP
  have hD : va_D A (mw d h (nI n) (upd mt n f9) mh ml mi) := hD
  refine lv_aload_n hx hb dX1_place_10 rfl (lv_at hl 0 rfl) ?_
  refine va_get (D := D) (ci := 1) (v := .ref (h 2)) (C := RX1) (T := TX1) (N := 5) hx hb hts in_X1 hown hK hP 0 rfl rfl 1 (by decide) (hts _ q157) (fun _ h9 => h9) rfl dX1_place_11 ?_
  refine lv_aload_n hx hb dX1_place_14 rfl (lv_at hl 0 rfl) ?_
  refine va_get (D := D) (ci := 1) (v := .int (nI n)) (C := RX1) (T := TX1) (N := 5) hx hb hts in_X1 hown hK hP 0 rfl rfl 4 (by decide) (hts _ q160) (fun _ h9 => h9) rfl dX1_place_15 ?_
  refine lv_iload_n hx hb dX1_place_18 rfl (lv_at hl 2 rfl) ?_
  refine va_iast hx hb hK hP hD hS 2 0 rfl rfl (vp_in_nI (show n < 13 by omega) (by decide)) dX1_place_19 (fun H locs hP hD hS => ?_)
  rw [nI_clamp (show n < 2 ^ 31 by omega)] at hP hD
  have hP : va_P D vwCl (mw d h (nI n) (upd mt n f9) (upd mh n t9) ml mi) H := hP
  have hD : va_D A (mw d h (nI n) (upd mt n f9) (upd mh n t9) ml mi) := hD
  refine lv_aload_n hx hb dX1_place_20 rfl (lv_at hl 0 rfl) ?_
  refine va_get (D := D) (ci := 1) (v := .ref (h 3)) (C := RX1) (T := TX1) (N := 5) hx hb hts in_X1 hown hK hP 0 rfl rfl 2 (by decide) (hts _ q158) (fun _ h9 => h9) rfl dX1_place_21 ?_
  refine lv_aload_n hx hb dX1_place_24 rfl (lv_at hl 0 rfl) ?_
  refine va_get (D := D) (ci := 1) (v := .int (nI n)) (C := RX1) (T := TX1) (N := 5) hx hb hts in_X1 hown hK hP 0 rfl rfl 4 (by decide) (hts _ q160) (fun _ h9 => h9) rfl dX1_place_25 ?_
  refine lv_iload_n hx hb dX1_place_28 rfl (lv_at hl 3 rfl) ?_
  refine va_iast hx hb hK hP hD hS 3 0 rfl rfl (vp_in_nI (show n < 13 by omega) (by decide)) dX1_place_29 (fun H locs hP hD hS => ?_)
  rw [nI_clamp (show n < 2 ^ 31 by omega)] at hP hD
  have hP : va_P D vwCl (mw d h (nI n) (upd mt n f9) (upd mh n t9) (upd ml n a9) mi) H := hP
  have hD : va_D A (mw d h (nI n) (upd mt n f9) (upd mh n t9) (upd ml n a9) mi) := hD
  refine lv_aload_n hx hb dX1_place_30 rfl (lv_at hl 0 rfl) ?_
  refine va_get (D := D) (ci := 1) (v := .ref (h 4)) (C := RX1) (T := TX1) (N := 5) hx hb hts in_X1 hown hK hP 0 rfl rfl 3 (by decide) (hts _ q159) (fun _ h9 => h9) rfl dX1_place_31 ?_
  refine lv_aload_n hx hb dX1_place_34 rfl (lv_at hl 0 rfl) ?_
  refine va_get (D := D) (ci := 1) (v := .int (nI n)) (C := RX1) (T := TX1) (N := 5) hx hb hts in_X1 hown hK hP 0 rfl rfl 4 (by decide) (hts _ q160) (fun _ h9 => h9) rfl dX1_place_35 ?_
  refine lv_iload hx hb dX1_place_38 (lv_at hl 4 rfl) ?_
  refine va_iast hx hb hK hP hD hS 4 0 rfl rfl (vp_in_nI (show n < 13 by omega) (by decide)) dX1_place_40 (fun H locs hP hD hS => ?_)
  rw [nI_clamp (show n < 2 ^ 31 by omega)] at hP hD
  have hP : va_P D vwCl (mw d h (nI n) (upd mt n f9) (upd mh n t9) (upd ml n a9) (upd mi n m9)) H := hP
  have hD : va_D A (mw d h (nI n) (upd mt n f9) (upd mh n t9) (upd ml n a9) (upd mi n m9)) := hD
  exact cr_vret () hx hb hr hlocks hK hP hD hS dX1_place_41 (trivial)
set_option maxHeartbeats 4000000 in
set_option maxRecDepth 100000 in
/-- arc by arc -/
theorem lpX1_lackOf_5 {p : Program} {l : Launch} {env : Env} {s : State} {m : MethodId} {args : Array Value} {below : List Frame} {meth : Method} {c : Code} {Q : State → Prop} {D : va_G} {d : ClassId} {h : Nat → Nat} {A : Nat → Prop} (hx : p.tables.exec = Jvm.exec) (hb : c.code = cX1_lackOf) (hml : c.maxLocals = 7) (hown : s.vm.findClass RX1 = some m.cls) (hts : ∀ w ∈ lw_all, w.before args s = true) (hA : ∀ q, s.heap.size ≤ q → A q) (hK : va_K D vwCl [(d, .int)] s) (n : Nat) (mt mh ml mi : Nat → Int32) (k na : Nat) (hk : k < 64) (hna : na ≤ 13) (hO : cr_MOK na mt mh ml mi)
    (K : ∀ (sm : Int32) (H : Heap) (locs : List Loc) (ls : Array Slot), (sm.toInt = cr_mlk mt mh ml mi k na) → va_P D vwCl (mw d h (nI n) mt mh ml mi) H → va_D A (mw d h (nI n) mt mh ml mi) → va_S A s.heap H locs → lv_has ls 7 [(4, .int (nI na)), (3, .int sm), (0, .ref (h 0)), (1, .int (nI k)), (2, .int (nI na))] → W p l env ({ frames := 0, cells := 0, slots := 0, locals := 0 } : Room) s m args below meth c H locs 0 0 Q (F0 m 99 ls []))
    : ∀ (n1 : Nat) (a : Nat) (sm : Int32) (H : Heap) (locs : List Loc) (ls : Array Slot), (a ≤ na) → (na + 1 ≤ a + n1) → (sm.toInt = cr_mlk mt mh ml mi k a) → va_P D vwCl (mw d h (nI n) mt mh ml mi) H → va_D A (mw d h (nI n) mt mh ml mi) → va_S A s.heap H locs → lv_has ls 7 [(4, .int (nI a)), (3, .int sm), (0, .ref (h 0)), (1, .int (nI k)), (2, .int (nI na))] → W p l env ({ frames := 0, cells := 0, slots := 0, locals := 0 } : Room) s m args below meth c H locs 0 0 Q (F0 m 5 ls []) := by
  intro n1
  induction n1 with
  | zero =>
    intro a sm H locs ls h1 h2 h3
    exfalso
    omega
  | succ n1 ih =>
    intro a sm H locs ls h1 h2 h3 hP hD hS hl
    refine lv_iload hx hb dX1_lackOf_5 (lv_at hl 0 rfl) ?_
    refine lv_iload_n hx hb dX1_lackOf_7 rfl (lv_at hl 4 rfl) ?_
    refine lv_icmp_ge (tgt := 99) hx hb dX1_lackOf_8 (by decide) (fun c1 => ?_) (fun c1 => ?_)
    · have q : a = na := by have := cr_le (by omega) (by omega) c1; omega
      subst q
      exact K sm H locs ls h3 hP hD hS hl
    · have q : a < na := cr_nle (by omega) (by omega) c1
      obtain ⟨g1, g2, g3, g4, g5, g6, g7, g8⟩ := hO a q
      have hrn := cr_mlk_rng hO k (show a ≤ na by omega)
      have hsu : cr_mlk mt mh ml mi k (a + 1) = cr_mlk mt mh ml mi k a + cr_lt (cr_n mt) (cr_n mh) (cr_i ml) (cr_i mi) (cr_tb k) a := rfl
      refine lv_iload_n hx hb dX1_lackOf_11 rfl (lv_at hl 3 rfl) ?_
      refine lv_aload_n hx hb dX1_lackOf_12 rfl (lv_at hl 2 rfl) ?_
      refine va_get (D := D) (ci := 1) (v := .ref (h 1)) (C := RX1) (T := TX1) (N := 5) hx hb hts in_X1 hown hK hP 0 rfl rfl 0 (by decide) (hts _ q156) (fun _ h9 => h9) rfl dX1_lackOf_13 ?_
      refine lv_iload hx hb dX1_lackOf_16 (lv_at hl 0 rfl) ?_
      refine va_iald hx hb hK hP 1 0 rfl rfl (vp_in_nI (show a < 13 by omega) (by decide)) dX1_lackOf_18 ?_
      refine lv_topi (fun y9 ey9 => ?_)
      obtain rfl : y9 = mt a := ey9.trans (congrArg mt (nI_clamp (show a < 2 ^ 31 by omega)))
      refine lv_topi (fun y9 ey9 => ?_)
      obtain rfl : y9 = nI (cr_n mt a) := ey9.trans (g1)
      refine lv_ishr hx hb dX1_lackOf_19 ?_
      refine lv_iconst (v := (nI 1)) hx hb dX1_lackOf_20 (by decide) ?_
      refine lv_iand hx hb dX1_lackOf_21 ?_
      refine lv_topi (fun y9 ey9 => ?_)
      obtain rfl : y9 = cr_01 (cr_tb k (cr_n mt a)) := ey9.trans (cr_tbit hk g3)
      refine lv_if_eq (tgt := 29) hx hb dX1_lackOf_22 (by decide) (fun c2 => ?_) (fun c2 => ?_)
      · have bf : cr_tb k (cr_n mt a) = false := cr_01_0 c2
        refine lv_iconst (v := (nI 0)) hx hb dX1_lackOf_29 (by decide) ?_
        refine lv_istore (lv' := [(5, .int (nI 0)), (4, .int (nI a)), (3, .int sm), (0, .ref (h 0)), (1, .int (nI k)), (2, .int (nI na))]) hx hb dX1_lackOf_30 hl (by decide) rfl (fun ls hl => ?_)
        refine lv_iload_n hx hb dX1_lackOf_32 rfl (lv_at hl 4 rfl) ?_
        refine lv_aload_n hx hb dX1_lackOf_33 rfl (lv_at hl 3 rfl) ?_
        refine va_get (D := D) (ci := 1) (v := .ref (h 2)) (C := RX1) (T := TX1) (N := 5) hx hb hts in_X1 hown hK hP 0 rfl rfl 1 (by decide) (hts _ q157) (fun _ h9 => h9) rfl dX1_lackOf_34 ?_
        refine lv_iload hx hb dX1_lackOf_37 (lv_at hl 1 rfl) ?_
        refine va_iald hx hb hK hP 2 0 rfl rfl (vp_in_nI (show a < 13 by omega) (by decide)) dX1_lackOf_39 ?_
        refine lv_topi (fun y9 ey9 => ?_)
        obtain rfl : y9 = mh a := ey9.trans (congrArg mh (nI_clamp (show a < 2 ^ 31 by omega)))
        refine lv_topi (fun y9 ey9 => ?_)
        obtain rfl : y9 = nI (cr_n mh a) := ey9.trans (g2)
        refine lv_ishr hx hb dX1_lackOf_40 ?_
        refine lv_iconst (v := (nI 1)) hx hb dX1_lackOf_41 (by decide) ?_
        refine lv_iand hx hb dX1_lackOf_42 ?_
        refine lv_topi (fun y9 ey9 => ?_)
        obtain rfl : y9 = cr_01 (cr_tb k (cr_n mh a)) := ey9.trans (cr_tbit hk g4)
        refine lv_if_eq (tgt := 50) hx hb dX1_lackOf_43 (by decide) (fun c3 => ?_) (fun c3 => ?_)
        · have bt : cr_tb k (cr_n mh a) = false := cr_01_0 c3
          refine lv_iconst (v := (nI 0)) hx hb dX1_lackOf_50 (by decide) ?_
          refine lv_istore (lv' := [(6, .int (nI 0)), (5, .int (nI 0)), (4, .int (nI a)), (3, .int sm), (0, .ref (h 0)), (1, .int (nI k)), (2, .int (nI na))]) hx hb dX1_lackOf_51 hl (by decide) rfl (fun ls hl => ?_)
          refine lv_iload hx hb dX1_lackOf_53 (lv_at hl 0 rfl) ?_
          refine lv_if_eq (tgt := 73) hx hb dX1_lackOf_55 (by decide) (fun c4 => ?_) (fun c4 => ?_)
          · refine lv_iload hx hb dX1_lackOf_73 (lv_at hl 1 rfl) ?_
            refine lv_if_eq (tgt := 93) hx hb dX1_lackOf_75 (by decide) (fun c6 => ?_) (fun c6 => ?_)
            · refine lv_iinc (v := (nI (a + 1))) (lv' := [(4, .int (nI (a + 1))), (6, .int (nI 0)), (5, .int (nI 0)), (3, .int sm), (0, .ref (h 0)), (1, .int (nI k)), (2, .int (nI na))]) hx hb dX1_lackOf_93 hl (k := 2) rfl (cr_inc a) (by decide) rfl (fun ls hl => ?_)
              refine lv_goto (tgt := 5) hx hb dX1_lackOf_96 (by decide) ?_
              exact ih (a + 1) sm H locs ls q (by omega) (by rw [hsu, cr_lt_eq (bf.trans bt.symm)]; omega) hP hD hS (lv_sub hl [0, 3, 4, 5, 6] rfl)
            · exact absurd rfl c6
          · exact absurd rfl c4
        · have bt : cr_tb k (cr_n mh a) = true := cr_01_1 c3
          refine lv_iconst (v := (nI 1)) hx hb dX1_lackOf_46 (by decide) ?_
          refine lv_goto (tgt := 51) hx hb dX1_lackOf_47 (by decide) ?_
          refine lv_istore (lv' := [(6, .int (nI 1)), (5, .int (nI 0)), (4, .int (nI a)), (3, .int sm), (0, .ref (h 0)), (1, .int (nI k)), (2, .int (nI na))]) hx hb dX1_lackOf_51 hl (by decide) rfl (fun ls hl => ?_)
          refine lv_iload hx hb dX1_lackOf_53 (lv_at hl 0 rfl) ?_
          refine lv_if_eq (tgt := 73) hx hb dX1_lackOf_55 (by decide) (fun c4 => ?_) (fun c4 => ?_)
          · exact absurd c4 cr_1ne
          · refine lv_iload hx hb dX1_lackOf_58 (lv_at hl 1 rfl) ?_
            refine lv_if_ne (tgt := 73) hx hb dX1_lackOf_60 (by decide) (fun c5 => ?_) (fun c5 => ?_)
            · exact absurd rfl c5
            · refine lv_iload_n hx hb dX1_lackOf_63 rfl (lv_at hl 3 rfl) ?_
              refine lv_aload_n hx hb dX1_lackOf_64 rfl (lv_at hl 4 rfl) ?_
              refine va_get (D := D) (ci := 1) (v := .ref (h 3)) (C := RX1) (T := TX1) (N := 5) hx hb hts in_X1 hown hK hP 0 rfl rfl 2 (by decide) (hts _ q158) (fun _ h9 => h9) rfl dX1_lackOf_65 ?_
              refine lv_iload hx hb dX1_lackOf_68 (lv_at hl 2 rfl) ?_
              refine va_iald hx hb hK hP 3 0 rfl rfl (vp_in_nI (show a < 13 by omega) (by decide)) dX1_lackOf_70 ?_
              refine lv_topi (fun y9 ey9 => ?_)
              obtain rfl : y9 = ml a := ey9.trans (congrArg ml (nI_clamp (show a < 2 ^ 31 by omega)))
              refine lv_iadd hx hb dX1_lackOf_71 ?_
              refine lv_topi (fun s1 es1 => ?_)
              have hs1 : s1.toInt = sm.toInt + (ml a).toInt := by rw [es1, fb_addI (by omega) (by omega)]
              refine lv_istore_n (lv' := [(3, .int s1), (6, .int (nI 1)), (5, .int (nI 0)), (4, .int (nI a)), (0, .ref (h 0)), (1, .int (nI k)), (2, .int (nI na))]) hx hb dX1_lackOf_72 rfl hl (by decide) rfl (fun ls hl => ?_)
              refine lv_iload hx hb dX1_lackOf_73 (lv_at hl 2 rfl) ?_
              refine lv_if_eq (tgt := 93) hx hb dX1_lackOf_75 (by decide) (fun c6 => ?_) (fun c6 => ?_)
              · refine lv_iinc (v := (nI (a + 1))) (lv' := [(4, .int (nI (a + 1))), (3, .int s1), (6, .int (nI 1)), (5, .int (nI 0)), (0, .ref (h 0)), (1, .int (nI k)), (2, .int (nI na))]) hx hb dX1_lackOf_93 hl (k := 3) rfl (cr_inc a) (by decide) rfl (fun ls hl => ?_)
                refine lv_goto (tgt := 5) hx hb dX1_lackOf_96 (by decide) ?_
                exact ih (a + 1) s1 H locs ls q (by omega) (by rw [hsu, cr_lt_in bf bt]; show s1.toInt = _ + (ml a).toInt; omega) hP hD hS (lv_sub hl [0, 1, 4, 5, 6] rfl)
              · exact absurd rfl c6
      · have bf : cr_tb k (cr_n mt a) = true := cr_01_1 c2
        refine lv_iconst (v := (nI 1)) hx hb dX1_lackOf_25 (by decide) ?_
        refine lv_goto (tgt := 30) hx hb dX1_lackOf_26 (by decide) ?_
        refine lv_istore (lv' := [(5, .int (nI 1)), (4, .int (nI a)), (3, .int sm), (0, .ref (h 0)), (1, .int (nI k)), (2, .int (nI na))]) hx hb dX1_lackOf_30 hl (by decide) rfl (fun ls hl => ?_)
        refine lv_iload_n hx hb dX1_lackOf_32 rfl (lv_at hl 4 rfl) ?_
        refine lv_aload_n hx hb dX1_lackOf_33 rfl (lv_at hl 3 rfl) ?_
        refine va_get (D := D) (ci := 1) (v := .ref (h 2)) (C := RX1) (T := TX1) (N := 5) hx hb hts in_X1 hown hK hP 0 rfl rfl 1 (by decide) (hts _ q157) (fun _ h9 => h9) rfl dX1_lackOf_34 ?_
        refine lv_iload hx hb dX1_lackOf_37 (lv_at hl 1 rfl) ?_
        refine va_iald hx hb hK hP 2 0 rfl rfl (vp_in_nI (show a < 13 by omega) (by decide)) dX1_lackOf_39 ?_
        refine lv_topi (fun y9 ey9 => ?_)
        obtain rfl : y9 = mh a := ey9.trans (congrArg mh (nI_clamp (show a < 2 ^ 31 by omega)))
        refine lv_topi (fun y9 ey9 => ?_)
        obtain rfl : y9 = nI (cr_n mh a) := ey9.trans (g2)
        refine lv_ishr hx hb dX1_lackOf_40 ?_
        refine lv_iconst (v := (nI 1)) hx hb dX1_lackOf_41 (by decide) ?_
        refine lv_iand hx hb dX1_lackOf_42 ?_
        refine lv_topi (fun y9 ey9 => ?_)
        obtain rfl : y9 = cr_01 (cr_tb k (cr_n mh a)) := ey9.trans (cr_tbit hk g4)
        refine lv_if_eq (tgt := 50) hx hb dX1_lackOf_43 (by decide) (fun c3 => ?_) (fun c3 => ?_)
        · have bt : cr_tb k (cr_n mh a) = false := cr_01_0 c3
          refine lv_iconst (v := (nI 0)) hx hb dX1_lackOf_50 (by decide) ?_
          refine lv_istore (lv' := [(6, .int (nI 0)), (5, .int (nI 1)), (4, .int (nI a)), (3, .int sm), (0, .ref (h 0)), (1, .int (nI k)), (2, .int (nI na))]) hx hb dX1_lackOf_51 hl (by decide) rfl (fun ls hl => ?_)
          refine lv_iload hx hb dX1_lackOf_53 (lv_at hl 0 rfl) ?_
          refine lv_if_eq (tgt := 73) hx hb dX1_lackOf_55 (by decide) (fun c4 => ?_) (fun c4 => ?_)
          · refine lv_iload hx hb dX1_lackOf_73 (lv_at hl 1 rfl) ?_
            refine lv_if_eq (tgt := 93) hx hb dX1_lackOf_75 (by decide) (fun c6 => ?_) (fun c6 => ?_)
            · exact absurd c6 cr_1ne
            · refine lv_iload hx hb dX1_lackOf_78 (lv_at hl 0 rfl) ?_
              refine lv_if_ne (tgt := 93) hx hb dX1_lackOf_80 (by decide) (fun c7 => ?_) (fun c7 => ?_)
              · exact absurd rfl c7
              · refine lv_iload_n hx hb dX1_lackOf_83 rfl (lv_at hl 3 rfl) ?_
                refine lv_aload_n hx hb dX1_lackOf_84 rfl (lv_at hl 4 rfl) ?_
                refine va_get (D := D) (ci := 1) (v := .ref (h 4)) (C := RX1) (T := TX1) (N := 5) hx hb hts in_X1 hown hK hP 0 rfl rfl 3 (by decide) (hts _ q159) (fun _ h9 => h9) rfl dX1_lackOf_85 ?_
                refine lv_iload hx hb dX1_lackOf_88 (lv_at hl 2 rfl) ?_
                refine va_iald hx hb hK hP 4 0 rfl rfl (vp_in_nI (show a < 13 by omega) (by decide)) dX1_lackOf_90 ?_
                refine lv_topi (fun y9 ey9 => ?_)
                obtain rfl : y9 = mi a := ey9.trans (congrArg mi (nI_clamp (show a < 2 ^ 31 by omega)))
                refine lv_isub hx hb dX1_lackOf_91 ?_
                refine lv_topi (fun s2 es2 => ?_)
                have hs2 : s2.toInt = sm.toInt - (mi a).toInt := by rw [es2, fb_subI (by omega) (by omega)]
                refine lv_istore_n (lv' := [(3, .int s2), (6, .int (nI 0)), (5, .int (nI 1)), (4, .int (nI a)), (0, .ref (h 0)), (1, .int (nI k)), (2, .int (nI na))]) hx hb dX1_lackOf_92 rfl hl (by decide) rfl (fun ls hl => ?_)
                refine lv_iinc (v := (nI (a + 1))) (lv' := [(4, .int (nI (a + 1))), (3, .int s2), (6, .int (nI 0)), (5, .int (nI 1)), (0, .ref (h 0)), (1, .int (nI k)), (2, .int (nI na))]) hx hb dX1_lackOf_93 hl (k := 3) rfl (cr_inc a) (by decide) rfl (fun ls hl => ?_)
                refine lv_goto (tgt := 5) hx hb dX1_lackOf_96 (by decide) ?_
                exact ih (a + 1) s2 H locs ls q (by omega) (by rw [hsu, cr_lt_out bf bt]; show s2.toInt = _ + -(mi a).toInt; omega) hP hD hS (lv_sub hl [0, 1, 4, 5, 6] rfl)
          · exact absurd rfl c4
        · have bt : cr_tb k (cr_n mh a) = true := cr_01_1 c3
          refine lv_iconst (v := (nI 1)) hx hb dX1_lackOf_46 (by decide) ?_
          refine lv_goto (tgt := 51) hx hb dX1_lackOf_47 (by decide) ?_
          refine lv_istore (lv' := [(6, .int (nI 1)), (5, .int (nI 1)), (4, .int (nI a)), (3, .int sm), (0, .ref (h 0)), (1, .int (nI k)), (2, .int (nI na))]) hx hb dX1_lackOf_51 hl (by decide) rfl (fun ls hl => ?_)
          refine lv_iload hx hb dX1_lackOf_53 (lv_at hl 0 rfl) ?_
          refine lv_if_eq (tgt := 73) hx hb dX1_lackOf_55 (by decide) (fun c4 => ?_) (fun c4 => ?_)
          · exact absurd c4 cr_1ne
          · refine lv_iload hx hb dX1_lackOf_58 (lv_at hl 1 rfl) ?_
            refine lv_if_ne (tgt := 73) hx hb dX1_lackOf_60 (by decide) (fun c5 => ?_) (fun c5 => ?_)
            · refine lv_iload hx hb dX1_lackOf_73 (lv_at hl 1 rfl) ?_
              refine lv_if_eq (tgt := 93) hx hb dX1_lackOf_75 (by decide) (fun c6 => ?_) (fun c6 => ?_)
              · exact absurd c6 cr_1ne
              · refine lv_iload hx hb dX1_lackOf_78 (lv_at hl 0 rfl) ?_
                refine lv_if_ne (tgt := 93) hx hb dX1_lackOf_80 (by decide) (fun c7 => ?_) (fun c7 => ?_)
                · refine lv_iinc (v := (nI (a + 1))) (lv' := [(4, .int (nI (a + 1))), (6, .int (nI 1)), (5, .int (nI 1)), (3, .int sm), (0, .ref (h 0)), (1, .int (nI k)), (2, .int (nI na))]) hx hb dX1_lackOf_93 hl (k := 2) rfl (cr_inc a) (by decide) rfl (fun ls hl => ?_)
                  refine lv_goto (tgt := 5) hx hb dX1_lackOf_96 (by decide) ?_
                  exact ih (a + 1) sm H locs ls q (by omega) (by rw [hsu, cr_lt_eq (bf.trans bt.symm)]; omega) hP hD hS (lv_sub hl [0, 3, 4, 5, 6] rfl)
                · exact absurd c7 cr_1ne
            · exact absurd c5 cr_1ne
set_option maxHeartbeats 4000000 in
set_option maxRecDepth 100000 in
/-- lackOf(set, arcs) -/
theorem metX1_lackOf (l : Launch) (D : va_G) (d : ClassId) (h : Nat → Nat) (sz : Nat) (n : Nat) (mt mh ml mi : Nat → Int32) (k na : Nat) (hk : k < 64) (hna : na ≤ 13) (hO : cr_MOK na mt mh ml mi) : cr_Mi l D d (mw d h (nI n) mt mh ml mi) sz yX1_lackOf cX1_lackOf 7 (some .int) 0 0 [.ref (h 0), .int (nI k), .int (nI na)] (S := Unit) (fun r _ => r.toInt = cr_mlk mt mh ml mi k na) (fun _ => mw d h (nI n) mt mh ml mi) := by
  refine cr_begin (Qc := fun A => va_Qi _ (cr_Bh D d A _) A) (by decide) (Nat.le_of_ble_eq_true rfl) ?_
  intro p env s m below meth c A ls hx hb hr hml hts hown hlocks hA hP hK hD hS hl
  have hown : s.vm.findClass RX1 = some m.cls := hown
  have hl : lv_has ls 7 [(0, .ref (h 0)), (1, .int (nI k)), (2, .int (nI na))] := hl
  refine lv_iconst (v := (nI 0)) hx hb dX1_lackOf_0 (by decide) ?_
  refine lv_istore_n (lv' := [(3, .int (nI 0)), (0, .ref (h 0)), (1, .int (nI k)), (2, .int (nI na))]) hx hb dX1_lackOf_1 rfl hl (by decide) rfl (fun ls hl => ?_)
  refine lv_iconst (v := (nI 0)) hx hb dX1_lackOf_2 (by decide) ?_
  refine lv_istore (lv' := [(4, .int (nI 0)), (3, .int (nI 0)), (0, .ref (h 0)), (1, .int (nI k)), (2, .int (nI na))]) hx hb dX1_lackOf_3 hl (by decide) rfl (fun ls hl => ?_)
  refine lpX1_lackOf_5 hx hb hml hown hts hA hK n mt mh ml mi k na hk hna hO (fun sm H locs ls hq hP hD hS hl => ?_) (na + 1) 0 (nI 0) s.heap [] ls (by omega) (by omega) rfl hP hD hS (lv_sub hl [0, 1, 2, 3, 4] rfl)
  refine lv_iload_n hx hb dX1_lackOf_99 rfl (lv_at hl 1 rfl) ?_
  exact cr_iret () hx hb hr hlocks hK hP hD hS dX1_lackOf_100 (hq)
set_option maxHeartbeats 4000000 in
set_option maxRecDepth 100000 in
/-- set by set -/
theorem lpX1_worst_4 {p : Program} {l : Launch} {env : Env} {s : State} {m : MethodId} {args : Array Value} {below : List Frame} {meth : Method} {c : Code} {Q : State → Prop} {D : va_G} {d : ClassId} {h : Nat → Nat} {A : Nat → Prop} (hx : p.tables.exec = Jvm.exec) (hb : c.code = cX1_worst) (hml : c.maxLocals = 5) (hown : s.vm.findClass RX1 = some m.cls) (hts : ∀ w ∈ lw_all, w.before args s = true) (hA : ∀ q, s.heap.size ≤ q → A q) (hK : va_K D vwCl [(d, .int)] s) (n : Nat) (mt mh ml mi : Nat → Int32) (na : Nat) (hna : na ≤ 13) (hO : cr_MOK na mt mh ml mi)
    (K : ∀ (mo : Int32) (H : Heap) (locs : List Loc) (ls : Array Slot), (cr_wst (cr_n mt) (cr_n mh) (cr_i ml) (cr_i mi) na mo.toInt) → va_P D vwCl (mw d h (nI n) mt mh ml mi) H → va_D A (mw d h (nI n) mt mh ml mi) → va_S A s.heap H locs → lv_has ls 5 [(3, .int (nI 64)), (2, .int mo), (0, .ref (h 0)), (1, .int (nI na))] → W p l env ({ frames := 1, cells := 0, slots := 0, locals := 26 } : Room) s m args below meth c H locs 0 0 Q (F0 m 33 ls []))
    : ∀ (n1 : Nat) (k : Nat) (mo : Int32) (H : Heap) (locs : List Loc) (ls : Array Slot), (k ≤ 64) → (65 ≤ k + n1) → (0 ≤ mo.toInt) → (∀ j, j < k → cr_mlk mt mh ml mi j na ≤ mo.toInt) → (mo.toInt = 0 ∨ ∃ j, j < k ∧ cr_mlk mt mh ml mi j na = mo.toInt) → va_P D vwCl (mw d h (nI n) mt mh ml mi) H → va_D A (mw d h (nI n) mt mh ml mi) → va_S A s.heap H locs → lv_has ls 5 [(3, .int (nI k)), (2, .int mo), (0, .ref (h 0)), (1, .int (nI na))] → W p l env ({ frames := 1, cells := 0, slots := 0, locals := 26 } : Room) s m args below meth c H locs 0 0 Q (F0 m 4 ls []) := by
  intro n1
  induction n1 with
  | zero =>
    intro k mo H locs ls h1 h2 h3 h4 h5
    exfalso
    omega
  | succ n1 ih =>
    intro k mo H locs ls h1 h2 h3 h4 h5 hP hD hS hl
    refine lv_iload_n hx hb dX1_worst_4 rfl (lv_at hl 0 rfl) ?_
    refine lv_bipush (v := (nI 64)) hx hb dX1_worst_5 (by decide) ?_
    refine lv_icmp_ge (tgt := 33) hx hb dX1_worst_7 (by decide) (fun c1 => ?_) (fun c1 => ?_)
    · have q : k = 64 := by have := cr_le (by omega) (by omega) c1; omega
      subst q
      refine K mo H locs ls ⟨h4, ?_⟩ hP hD hS hl
      rcases h5 with h5 | h5
      · exact ⟨0, by decide, by rw [h5]; exact cr_lk_0 mt mh ml mi na⟩
      · exact h5
    · have q : k < 64 := cr_nle (by omega) (by omega) c1
      refine lv_aload_n hx hb dX1_worst_10 rfl (lv_at hl 2 rfl) ?_
      refine lv_iload_n hx hb dX1_worst_11 rfl (lv_at hl 0 rfl) ?_
      refine lv_iload_n hx hb dX1_worst_12 rfl (lv_at hl 3 rfl) ?_
      refine cr_selfi (As := [.int (nI k), .int (nI na)]) (rest := []) ⟨hx, hb, hml, hown, hts⟩ (metX1_lackOf l D d h H.size n mt mh ml mi k na q hna hO) (cwV 2 hts (lw_V q208 q210 qs13 q17 q211) rfl rfl rfl (by decide +kernel) ⟨Nat.le_of_ble_eq_true rfl, Nat.le_of_ble_eq_true rfl⟩) hK hP hD hS hA (ci := 1) rfl rfl rfl hl.1 rfl (Nat.le_of_ble_eq_true rfl) dX1_worst_13 ⟨Nat.le_refl _, Nat.le_refl _⟩ (fun r u H locs hw hP hD hS => ?_)
      have hP : va_P D vwCl (mw d h (nI n) mt mh ml mi) H := hP
      have hD : va_D A (mw d h (nI n) mt mh ml mi) := hD
      refine lv_istore (lv' := [(4, .int r), (3, .int (nI k)), (2, .int mo), (0, .ref (h 0)), (1, .int (nI na))]) hx hb dX1_worst_16 hl (by decide) rfl (fun ls hl => ?_)
      refine lv_iload hx hb dX1_worst_18 (lv_at hl 0 rfl) ?_
      refine lv_iload_n hx hb dX1_worst_20 rfl (lv_at hl 2 rfl) ?_
      refine lv_icmp_le (tgt := 27) hx hb dX1_worst_21 (by decide) (fun c2 => ?_) (fun c2 => ?_)
      · rw [Int32.le_iff_toInt_le] at c2
        refine lv_iinc (v := (nI (k + 1))) (lv' := [(3, .int (nI (k + 1))), (4, .int r), (2, .int mo), (0, .ref (h 0)), (1, .int (nI na))]) hx hb dX1_worst_27 hl (k := 1) rfl (cr_inc k) (by decide) rfl (fun ls hl => ?_)
        refine lv_goto (tgt := 4) hx hb dX1_worst_30 (by decide) ?_
        refine ih (k + 1) mo H locs ls q (by omega) h3 (fun j hj => ?_) ?_ hP hD hS (lv_sub hl [0, 2, 3, 4] rfl)
        · by_cases e : j = k
          · rw [e, ← hw]; exact c2
          · exact h4 j (by omega)
        · rcases h5 with h5 | ⟨j, hj, h5⟩
          · exact Or.inl h5
          · exact Or.inr ⟨j, by omega, h5⟩
      · rw [Int32.le_iff_toInt_le] at c2
        refine lv_iload hx hb dX1_worst_24 (lv_at hl 0 rfl) ?_
        refine lv_istore_n (lv' := [(2, .int r), (4, .int r), (3, .int (nI k)), (0, .ref (h 0)), (1, .int (nI na))]) hx hb dX1_worst_26 rfl hl (by decide) rfl (fun ls hl => ?_)
        refine lv_iinc (v := (nI (k + 1))) (lv' := [(3, .int (nI (k + 1))), (2, .int r), (4, .int r), (0, .ref (h 0)), (1, .int (nI na))]) hx hb dX1_worst_27 hl (k := 2) rfl (cr_inc k) (by decide) rfl (fun ls hl => ?_)
        refine lv_goto (tgt := 4) hx hb dX1_worst_30 (by decide) ?_
        refine ih (k + 1) r H locs ls q (by omega) (by omega) (fun j hj => ?_) (Or.inr ⟨k, by omega, hw.symm⟩) hP hD hS (lv_sub hl [0, 1, 3, 4] rfl)
        by_cases e : j = k
        · rw [e, ← hw]; exact Int.le_refl _
        · have := h4 j (by omega); omega
set_option maxHeartbeats 4000000 in
set_option maxRecDepth 100000 in
/-- worst(arcs) -/
theorem metX1_worst (l : Launch) (D : va_G) (d : ClassId) (h : Nat → Nat) (sz : Nat) (n : Nat) (mt mh ml mi : Nat → Int32) (na : Nat) (hna : na ≤ 13) (hO : cr_MOK na mt mh ml mi) : cr_Mi l D d (mw d h (nI n) mt mh ml mi) sz yX1_worst cX1_worst 5 (some .int) 1 26 [.ref (h 0), .int (nI na)] (S := Unit) (fun r _ => cr_wst (cr_n mt) (cr_n mh) (cr_i ml) (cr_i mi) na r.toInt) (fun _ => mw d h (nI n) mt mh ml mi) := by
  refine cr_begin (Qc := fun A => va_Qi _ (cr_Bh D d A _) A) (by decide) (Nat.le_of_ble_eq_true rfl) ?_
  intro p env s m below meth c A ls hx hb hr hml hts hown hlocks hA hP hK hD hS hl
  have hown : s.vm.findClass RX1 = some m.cls := hown
  have hl : lv_has ls 5 [(0, .ref (h 0)), (1, .int (nI na))] := hl
  refine lv_iconst (v := (nI 0)) hx hb dX1_worst_0 (by decide) ?_
  refine lv_istore_n (lv' := [(2, .int (nI 0)), (0, .ref (h 0)), (1, .int (nI na))]) hx hb dX1_worst_1 rfl hl (by decide) rfl (fun ls hl => ?_)
  refine lv_iconst (v := (nI 0)) hx hb dX1_worst_2 (by decide) ?_
  refine lv_istore_n (lv' := [(3, .int (nI 0)), (2, .int (nI 0)), (0, .ref (h 0)), (1, .int (nI na))]) hx hb dX1_worst_3 rfl hl (by decide) rfl (fun ls hl => ?_)
  refine lpX1_worst_4 hx hb hml hown hts hA hK n mt mh ml mi na hna hO (fun mo H locs ls hq hP hD hS hl => ?_) 65 0 (nI 0) s.heap [] ls (by omega) (by omega) (Int.le_refl 0) (fun j hj => absurd hj (Nat.not_lt_zero j)) (Or.inl rfl) hP hD hS (lv_sub hl [0, 1, 2, 3] rfl)
  refine lv_iload_n hx hb dX1_worst_33 rfl (lv_at hl 1 rfl) ?_
  exact cr_iret () hx hb hr hlocks hK hP hD hS dX1_worst_34 (hq)
end
section
/-! MODULE CirculationRangeModel: the public methods -/
theorem cr_Arcs_MOK {n : Nat} {mt mh ml mi : Nat → Int32} (h : cr_Arcs n mt mh ml mi) : cr_MOK n mt mh ml mi := fun a ha => by
  obtain ⟨h1, h2, h3, h4, -, h6, h7, h8⟩ := h.2 a ha
  have h6 : 0 ≤ (ml a).toInt := h6
  have h7 : (ml a).toInt ≤ (mi a).toInt := h7
  have h8 : (mi a).toInt ≤ 20 := h8
  exact ⟨h1, h2, h3, h4, h6, by omega, by omega, by omega⟩
theorem cr_MOK_up {n : Nat} {mt mh ml mi : Nat → Int32} (h : cr_MOK n mt mh ml mi) (a : Nat) {x : Int32} (h0 : 0 ≤ x.toInt) (h1 : x.toInt ≤ 240) : cr_MOK n mt mh (upd ml a x) (upd mi a x) := fun j hj => by
  obtain ⟨g1, g2, g3, g4, g5, g6, g7, g8⟩ := h j hj
  refine ⟨g1, g2, g3, g4, ?_⟩
  by_cases e : j = a
  · subst e
    rw [pk_us, pk_us]
    exact ⟨h0, h1, h0, h1⟩
  · rw [pk_un e, pk_un e]
    exact ⟨g5, g6, g7, g8⟩
theorem cr_MOK_ext {n : Nat} {mt mh ml mi : Nat → Int32} (h : cr_MOK n mt mh ml mi) {s t : Nat} {x : Int32} (hs : s < 6) (ht : t < 6) (h0 : 0 ≤ x.toInt) (h1 : x.toInt ≤ 240) : cr_MOK (n + 1) (upd mt n (nI t)) (upd mh n (nI s)) (upd ml n x) (upd mi n x) := fun j hj => by
  show upd mt n (nI t) j = nI (upd mt n (nI t) j).toNatClampNeg ∧ upd mh n (nI s) j = nI (upd mh n (nI s) j).toNatClampNeg ∧ (upd mt n (nI t) j).toNatClampNeg < 6 ∧ (upd mh n (nI s) j).toNatClampNeg < 6 ∧ _
  by_cases e : j = n
  · subst e
    rw [pk_us, pk_us, pk_us, pk_us, nI_clamp (by omega), nI_clamp (by omega)]
    exact ⟨rfl, rfl, ht, hs, h0, h1, h0, h1⟩
  · rw [pk_un e, pk_un e, pk_un e, pk_un e]
    exact h j (by omega)
theorem cr_lk_tb0 {A B : Nat → Nat} {lo hi : Nat → Int} {n : Nat} : cr_lk A B lo hi (cr_tb 0) n = 0 := cr_lk_empty (fun a _ => by
  show Nat.testBit 0 _ = Nat.testBit 0 _
  rw [Nat.zero_testBit, Nat.zero_testBit])
theorem cr_wst_yes {A B : Nat → Nat} {lo hi : Nat → Int} {n : Nat} {w : Int} (h : cr_wst A B lo hi n w) (hw : w = 0) : cr_alw A B lo hi n := fun k hk => by
  have := h.1 k hk
  omega
theorem cr_wst_no {A B : Nat → Nat} {lo hi : Nat → Int} {n : Nat} {w : Int} (h : cr_wst A B lo hi n w) (hw : ¬ w = 0) : ¬ cr_alw A B lo hi n := fun q => by
  obtain ⟨h1, k, hk, e⟩ := h
  have h2 := h1 0 (by decide)
  rw [cr_lk_tb0] at h2
  have h3 := q k hk
  omega
theorem cr_back (f : Nat → Int32) (a : Nat) (x : Int32) : upd (upd f a x) a (f a) = f := by
  rw [fa_upd_twice]
  exact fa_upd_same rfl
theorem cr_i_0 {r : Int32} : r = 0 ↔ r.toInt = 0 := ⟨fun h => by rw [h]; rfl, fun h => Int32.toInt_inj.mp h⟩
theorem cr_i_0n {r : Int32} (h : ¬ r = 0) : ¬ r.toInt = 0 := fun q => h (cr_i_0.mpr q)
/-- the same below n -/
def cr_Ag (n : Nat) (mt mh ml mi mt1 mh1 ml1 mi1 : Nat → Int32) : Prop := ∀ a, a < n → mt1 a = mt a ∧ mh1 a = mh a ∧ ml1 a = ml a ∧ mi1 a = mi a
theorem cr_Ag_sm {n : Nat} {mt mh ml mi mt1 mh1 ml1 mi1 : Nat → Int32} (h : cr_Ag n mt mh ml mi mt1 mh1 ml1 mi1) : cr_Sm (cr_n mt1) (cr_n mh1) (cr_n mt) (cr_n mh) (cr_i ml1) (cr_i mi1) (cr_i ml) (cr_i mi) n := fun a ha => by
  obtain ⟨h1, h2, h3, h4⟩ := h a ha
  show (mt1 a).toNatClampNeg = (mt a).toNatClampNeg ∧ (mh1 a).toNatClampNeg = (mh a).toNatClampNeg ∧ (ml1 a).toInt = (ml a).toInt ∧ (mi1 a).toInt = (mi a).toInt
  rw [h1, h2, h3, h4]
  exact ⟨rfl, rfl, rfl, rfl⟩
theorem cr_Ag_ok {n : Nat} {mt mh ml mi mt1 mh1 ml1 mi1 : Nat → Int32} (h : cr_Ag n mt mh ml mi mt1 mh1 ml1 mi1) (hO : cr_MOK n mt mh ml mi) : cr_MOK n mt1 mh1 ml1 mi1 := fun a ha => by
  obtain ⟨h1, h2, h3, h4⟩ := h a ha
  show mt1 a = nI (mt1 a).toNatClampNeg ∧ mh1 a = nI (mh1 a).toNatClampNeg ∧ (mt1 a).toNatClampNeg < 6 ∧ (mh1 a).toNatClampNeg < 6 ∧ _
  rw [h1, h2, h3, h4]
  exact hO a ha
theorem cr_Ag_put {n : Nat} {mt mh ml mi mt1 mh1 ml1 mi1 : Nat → Int32} {x y z w : Int32} (h : cr_Ag n mt mh ml mi mt1 mh1 ml1 mi1) : cr_Ag n mt mh ml mi (upd mt1 n x) (upd mh1 n y) (upd ml1 n z) (upd mi1 n w) := fun a ha => by
  rw [pk_un (by omega), pk_un (by omega), pk_un (by omega), pk_un (by omega)]
  exact h a ha
theorem cr_Ag_alT {n : Nat} {mt mh ml mi mt1 mh1 ml1 mi1 : Nat → Int32} {s t : Nat} {x : Int32} (h : cr_Ag n mt mh ml mi mt1 mh1 ml1 mi1) (hs : s < 6) (ht : t < 6) : cr_alw (cr_n (upd mt1 n (nI t))) (cr_n (upd mh1 n (nI s))) (cr_i (upd ml1 n x)) (cr_i (upd mi1 n x)) (n + 1) ↔ cr_alT (cr_n mt) (cr_n mh) (cr_i ml) (cr_i mi) n s t x.toInt := by
  rw [cr_n_upd, cr_n_upd, cr_i_upd, cr_i_upd, nI_clamp (by omega), nI_clamp (by omega)]
  exact ⟨fun q => cr_Sm_alw (cr_Sm_ext (cr_Ag_sm h) s t x.toInt) q, fun q => cr_Sm_alw (cr_Sm_ext (cr_Sm_symm (cr_Ag_sm h)) s t x.toInt) q⟩
theorem cr_63 : ∀ v, v < 6 → Nat.testBit 63 v = true := by decide +kernel
set_option maxHeartbeats 4000000 in
set_option maxRecDepth 100000 in
/-- arcs() -/
theorem metX1_arcs (l : Launch) (D : va_G) (d : ClassId) (h : Nat → Nat) (sz : Nat) (n : Nat) (mt mh ml mi : Nat → Int32)  : cr_Mi l D d (mw d h (nI n) mt mh ml mi) sz yX1_arcs cX1_arcs 1 (some .int) 0 0 [.ref (h 0)] (S := Unit) (fun r _ => r = nI n) (fun _ => mw d h (nI n) mt mh ml mi) := by
  refine cr_begin (Qc := fun A => va_Qi _ (cr_Bh D d A _) A) (by decide) (Nat.le_of_ble_eq_true rfl) ?_
  intro p env s m below meth c A ls hx hb hr hml hts hown hlocks hA hP hK hD hS hl
  have hown : s.vm.findClass RX1 = some m.cls := hown
  have hl : lv_has ls 1 [(0, .ref (h 0))] := hl
  refine lv_aload_n hx hb dX1_arcs_0 rfl (lv_at hl 0 rfl) ?_
  refine va_get (D := D) (ci := 1) (v := .int (nI n)) (C := RX1) (T := TX1) (N := 5) hx hb hts in_X1 hown hK hP 0 rfl rfl 4 (by decide) (hts _ q160) (fun _ h9 => h9) rfl dX1_arcs_1 ?_
  exact cr_iret () hx hb hr hlocks hK hP hD hS dX1_arcs_4 (rfl)
set_option maxHeartbeats 4000000 in
set_option maxRecDepth 100000 in
/-- dropLast() -/
theorem metX1_dropLast (l : Launch) (D : va_G) (d : ClassId) (h : Nat → Nat) (sz : Nat) (n : Nat) (mt mh ml mi : Nat → Int32) (hn2 : n ≤ 12) : cr_Mi l D d (mw d h (nI n) mt mh ml mi) sz yX1_dropLast cX1_dropLast 1 (some .int) 0 0 [.ref (h 0)] (S := cr_U) (fun r u => cr_Pdro n (nI n, mt, mh, ml, mi) r u) (fun u => mw d h u.1 u.2.1 u.2.2.1 u.2.2.2.1 u.2.2.2.2) := by
  refine cr_begin (Qc := fun A => va_Qi _ (cr_Bh D d A _) A) (by decide) (Nat.le_of_ble_eq_true rfl) ?_
  intro p env s m below meth c A ls hx hb hr hml hts hown hlocks hA hP hK hD hS hl
  have hown : s.vm.findClass RX1 = some m.cls := hown
  have hl : lv_has ls 1 [(0, .ref (h 0))] := hl
  refine lv_aload_n hx hb dX1_dropLast_0 rfl (lv_at hl 0 rfl) ?_
  refine va_get (D := D) (ci := 1) (v := .int (nI n)) (C := RX1) (T := TX1) (N := 5) hx hb hts in_X1 hown hK hP 0 rfl rfl 4 (by decide) (hts _ q160) (fun _ h9 => h9) rfl dX1_dropLast_1 ?_
  refine lv_if_ne (tgt := 10) hx hb dX1_dropLast_4 (by decide) (fun c1 => ?_) (fun c1 => ?_)
  · have q : 0 < n := by
      rcases Nat.eq_zero_or_pos n with e | e
      · exact absurd (by rw [e]; rfl) c1
      · exact e
    refine lv_aload_n hx hb dX1_dropLast_10 rfl (lv_at hl 0 rfl) ?_
    refine lv_dup hx hb dX1_dropLast_11 rfl ?_
    refine va_get (D := D) (ci := 1) (v := .int (nI n)) (C := RX1) (T := TX1) (N := 5) hx hb hts in_X1 hown hK hP 0 rfl rfl 4 (by decide) (hts _ q160) (fun _ h9 => h9) rfl dX1_dropLast_12 ?_
    refine lv_iconst (v := (nI 1)) hx hb dX1_dropLast_15 (by decide) ?_
    refine lv_isub hx hb dX1_dropLast_16 ?_
    refine lv_topi (fun y9 ey9 => ?_)
    obtain rfl : y9 = nI (n - 1) := ey9.trans (pk_sub (a := n) (b := 1) (by omega))
    refine va_put (D := D) (ci := 1) (v := .int (nI (n - 1))) (ty := .int) (C := RX1) (T := TX1) (N := 5) hx hb hts in_X1 tyX1 tyX1_ok nmX1 hown hK hP hD hS 0 rfl rfl 4 (by decide) (hts _ q160) (fun _ h9 => h9) rfl (by decide +kernel) rfl rfl (Nat.le_of_ble_eq_true rfl) dX1_dropLast_17 (fun H locs hP hD hS => ?_)
    have hP : va_P D vwCl (mw d h (nI (n - 1)) mt mh ml mi) H := hP
    have hD : va_D A (mw d h (nI (n - 1)) mt mh ml mi) := hD
    refine lv_aload_n hx hb dX1_dropLast_20 rfl (lv_at hl 0 rfl) ?_
    refine va_get (D := D) (ci := 1) (v := .int (nI (n - 1))) (C := RX1) (T := TX1) (N := 5) hx hb hts in_X1 hown hK hP 0 rfl rfl 4 (by decide) (hts _ q160) (fun _ h9 => h9) rfl dX1_dropLast_21 ?_
    exact cr_iret (nI (n - 1), mt, mh, ml, mi) hx hb hr hlocks hK hP hD hS dX1_dropLast_24 (Or.inr ⟨q, rfl, rfl⟩)
  · have q : n = 0 := cr_eq (by omega) (by decide) (show nI n = nI 0 from c1)
    refine lv_bipush (v := (-4)) hx hb dX1_dropLast_7 (by decide) ?_
    exact cr_iret (nI n, mt, mh, ml, mi) hx hb hr hlocks hK hP hD hS dX1_dropLast_9 (Or.inl ⟨q, rfl, rfl⟩)
set_option maxHeartbeats 4000000 in
set_option maxRecDepth 100000 in
/-- bounds(arc, least, most) -/
theorem metX1_bounds (l : Launch) (D : va_G) (d : ClassId) (h : Nat → Nat) (sz : Nat) (n : Nat) (mt mh ml mi : Nat → Int32) (hn2 : n ≤ 12) (a b m9 : Int32) : cr_Mi l D d (mw d h (nI n) mt mh ml mi) sz yX1_bounds cX1_bounds 4 (some .int) 1 21 [.ref (h 0), .int a, .int b, .int m9] (S := cr_U) (fun r u => cr_Pbou n (nI n, mt, mh, ml, mi) a b m9 r u) (fun u => mw d h u.1 u.2.1 u.2.2.1 u.2.2.2.1 u.2.2.2.2) := by
  refine cr_begin (Qc := fun A => va_Qi _ (cr_Bh D d A _) A) (by decide) (Nat.le_of_ble_eq_true rfl) ?_
  intro p env s m below meth c A ls hx hb hr hml hts hown hlocks hA hP hK hD hS hl
  have hown : s.vm.findClass RX1 = some m.cls := hown
  have hl : lv_has ls 4 [(0, .ref (h 0)), (1, .int a), (2, .int b), (3, .int m9)] := hl
  refine lv_aload_n hx hb dX1_bounds_0 rfl (lv_at hl 0 rfl) ?_
  refine lv_iload_n hx hb dX1_bounds_1 rfl (lv_at hl 1 rfl) ?_
  refine cr_selfi (As := [.int a]) (rest := []) ⟨hx, hb, hml, hown, hts⟩ (metX1_isArc l D d h s.heap.size n mt mh ml mi a (by omega)) (cwV 1 hts (lw_V q188 q190 qs11 q17 q191) rfl rfl rfl (by decide +kernel) ⟨Nat.le_of_ble_eq_true rfl, Nat.le_of_ble_eq_true rfl⟩) hK hP hD hS hA (ci := 1) rfl rfl rfl hl.1 rfl (Nat.le_of_ble_eq_true rfl) dX1_bounds_2 ⟨Nat.le_refl _, Nat.le_refl _⟩ (fun r u H locs hw hP hD hS => ?_)
  have hP : va_P D vwCl (mw d h (nI n) mt mh ml mi) H := hP
  have hD : va_D A (mw d h (nI n) mt mh ml mi) := hD
  refine lv_if_ne (tgt := 11) hx hb dX1_bounds_5 (by decide) (fun c1 => ?_) (fun c1 => ?_)
  · have q : cr_ia n a := by
      unfold cr_ia
      by_cases z : 0 ≤ a.toInt ∧ a.toInt < n
      · exact z
      · rw [if_neg z] at hw; exact absurd hw c1
    have hn12 : n ≤ 12 := by assumption
    refine lv_iload_n hx hb dX1_bounds_11 rfl (lv_at hl 2 rfl) ?_
    refine lv_if_lt (tgt := 26) hx hb dX1_bounds_12 (by decide) (fun c2 => ?_) (fun c2 => ?_)
    · refine lv_bipush (v := (-2)) hx hb dX1_bounds_26 (by decide) ?_
      have q2 : ¬ cr_gb b m9 := by
        unfold cr_gb
        rw [cr_lt0] at c2
        omega
      exact cr_iret (nI n, mt, mh, ml, mi) hx hb hr hlocks hK hP hD hS dX1_bounds_28 (Or.inr (Or.inl ⟨q, q2, rfl, rfl⟩))
    · rw [cr_lt0] at c2
      refine lv_iload_n hx hb dX1_bounds_15 rfl (lv_at hl 2 rfl) ?_
      refine lv_iload_n hx hb dX1_bounds_16 rfl (lv_at hl 3 rfl) ?_
      refine lv_icmp_gt (tgt := 26) hx hb dX1_bounds_17 (by decide) (fun c3 => ?_) (fun c3 => ?_)
      · refine lv_bipush (v := (-2)) hx hb dX1_bounds_26 (by decide) ?_
        have q2 : ¬ cr_gb b m9 := by
          unfold cr_gb
          rw [Int32.lt_iff_toInt_lt] at c3
          omega
        exact cr_iret (nI n, mt, mh, ml, mi) hx hb hr hlocks hK hP hD hS dX1_bounds_28 (Or.inr (Or.inl ⟨q, q2, rfl, rfl⟩))
      · rw [Int32.lt_iff_toInt_lt] at c3
        refine lv_iload_n hx hb dX1_bounds_20 rfl (lv_at hl 3 rfl) ?_
        refine lv_bipush (v := (nI 20)) hx hb dX1_bounds_21 (by decide) ?_
        refine lv_icmp_le (tgt := 29) hx hb dX1_bounds_23 (by decide) (fun c4 => ?_) (fun c4 => ?_)
        · rw [Int32.le_iff_toInt_le, show (nI 20).toInt = 20 from rfl] at c4
          have q2 : cr_gb b m9 := by
            unfold cr_gb
            omega
          obtain ⟨k, hk, rfl⟩ := cr_ofI q (by omega)
          refine lv_aload_n hx hb dX1_bounds_29 rfl (lv_at hl 0 rfl) ?_
          refine va_get (D := D) (ci := 1) (v := .ref (h 3)) (C := RX1) (T := TX1) (N := 5) hx hb hts in_X1 hown hK hP 0 rfl rfl 2 (by decide) (hts _ q158) (fun _ h9 => h9) rfl dX1_bounds_30 ?_
          refine lv_iload_n hx hb dX1_bounds_33 rfl (lv_at hl 1 rfl) ?_
          refine lv_iload_n hx hb dX1_bounds_34 rfl (lv_at hl 2 rfl) ?_
          refine va_iast hx hb hK hP hD hS 3 0 rfl rfl (vp_in_nI (show k < 13 by omega) (by decide)) dX1_bounds_35 (fun H locs hP hD hS => ?_)
          rw [nI_clamp (show k < 2 ^ 31 by omega)] at hP hD
          have hP : va_P D vwCl (mw d h (nI n) mt mh (upd ml k b) mi) H := hP
          have hD : va_D A (mw d h (nI n) mt mh (upd ml k b) mi) := hD
          refine lv_aload_n hx hb dX1_bounds_36 rfl (lv_at hl 0 rfl) ?_
          refine va_get (D := D) (ci := 1) (v := .ref (h 4)) (C := RX1) (T := TX1) (N := 5) hx hb hts in_X1 hown hK hP 0 rfl rfl 3 (by decide) (hts _ q159) (fun _ h9 => h9) rfl dX1_bounds_37 ?_
          refine lv_iload_n hx hb dX1_bounds_40 rfl (lv_at hl 1 rfl) ?_
          refine lv_iload_n hx hb dX1_bounds_41 rfl (lv_at hl 3 rfl) ?_
          refine va_iast hx hb hK hP hD hS 4 0 rfl rfl (vp_in_nI (show k < 13 by omega) (by decide)) dX1_bounds_42 (fun H locs hP hD hS => ?_)
          rw [nI_clamp (show k < 2 ^ 31 by omega)] at hP hD
          have hP : va_P D vwCl (mw d h (nI n) mt mh (upd ml k b) (upd mi k m9)) H := hP
          have hD : va_D A (mw d h (nI n) mt mh (upd ml k b) (upd mi k m9)) := hD
          refine lv_iconst (v := (nI 0)) hx hb dX1_bounds_43 (by decide) ?_
          exact cr_iret (nI n, mt, mh, upd ml k b, upd mi k m9) hx hb hr hlocks hK hP hD hS dX1_bounds_44 (Or.inr (Or.inr ⟨q2, k, hk, rfl, rfl, rfl⟩))
        · refine lv_bipush (v := (-2)) hx hb dX1_bounds_26 (by decide) ?_
          have q2 : ¬ cr_gb b m9 := by
            unfold cr_gb
            rw [Int32.le_iff_toInt_le, show (nI 20).toInt = 20 from rfl] at c4
            omega
          exact cr_iret (nI n, mt, mh, ml, mi) hx hb hr hlocks hK hP hD hS dX1_bounds_28 (Or.inr (Or.inl ⟨q, q2, rfl, rfl⟩))
  · have q : ¬ cr_ia n a := by
      unfold cr_ia
      intro z
      rw [if_pos z] at hw
      rw [hw] at c1
      exact absurd c1 (by decide)
    refine lv_bipush (v := (-4)) hx hb dX1_bounds_8 (by decide) ?_
    exact cr_iret (nI n, mt, mh, ml, mi) hx hb hr hlocks hK hP hD hS dX1_bounds_10 (Or.inl ⟨q, rfl, rfl⟩)
set_option maxHeartbeats 4000000 in
set_option maxRecDepth 100000 in
/-- reverse(arc) -/
theorem metX1_reverse (l : Launch) (D : va_G) (d : ClassId) (h : Nat → Nat) (sz : Nat) (n : Nat) (mt mh ml mi : Nat → Int32) (hn2 : n ≤ 12) (a : Int32) : cr_Mi l D d (mw d h (nI n) mt mh ml mi) sz yX1_reverse cX1_reverse 3 (some .int) 1 21 [.ref (h 0), .int a] (S := cr_U) (fun r u => cr_Prev n (nI n, mt, mh, ml, mi) a r u) (fun u => mw d h u.1 u.2.1 u.2.2.1 u.2.2.2.1 u.2.2.2.2) := by
  refine cr_begin (Qc := fun A => va_Qi _ (cr_Bh D d A _) A) (by decide) (Nat.le_of_ble_eq_true rfl) ?_
  intro p env s m below meth c A ls hx hb hr hml hts hown hlocks hA hP hK hD hS hl
  have hown : s.vm.findClass RX1 = some m.cls := hown
  have hl : lv_has ls 3 [(0, .ref (h 0)), (1, .int a)] := hl
  refine lv_aload_n hx hb dX1_reverse_0 rfl (lv_at hl 0 rfl) ?_
  refine lv_iload_n hx hb dX1_reverse_1 rfl (lv_at hl 1 rfl) ?_
  refine cr_selfi (As := [.int a]) (rest := []) ⟨hx, hb, hml, hown, hts⟩ (metX1_isArc l D d h s.heap.size n mt mh ml mi a (by omega)) (cwV 1 hts (lw_V q188 q190 qs11 q17 q191) rfl rfl rfl (by decide +kernel) ⟨Nat.le_of_ble_eq_true rfl, Nat.le_of_ble_eq_true rfl⟩) hK hP hD hS hA (ci := 1) rfl rfl rfl hl.1 rfl (Nat.le_of_ble_eq_true rfl) dX1_reverse_2 ⟨Nat.le_refl _, Nat.le_refl _⟩ (fun r u H locs hw hP hD hS => ?_)
  have hP : va_P D vwCl (mw d h (nI n) mt mh ml mi) H := hP
  have hD : va_D A (mw d h (nI n) mt mh ml mi) := hD
  refine lv_if_ne (tgt := 11) hx hb dX1_reverse_5 (by decide) (fun c1 => ?_) (fun c1 => ?_)
  · have q : cr_ia n a := by
      unfold cr_ia
      by_cases z : 0 ≤ a.toInt ∧ a.toInt < n
      · exact z
      · rw [if_neg z] at hw; exact absurd hw c1
    have hn12 : n ≤ 12 := by assumption
    obtain ⟨k, hk, rfl⟩ := cr_ofI q (by omega)
    refine lv_aload_n hx hb dX1_reverse_11 rfl (lv_at hl 0 rfl) ?_
    refine va_get (D := D) (ci := 1) (v := .ref (h 1)) (C := RX1) (T := TX1) (N := 5) hx hb hts in_X1 hown hK hP 0 rfl rfl 0 (by decide) (hts _ q156) (fun _ h9 => h9) rfl dX1_reverse_12 ?_
    refine lv_iload_n hx hb dX1_reverse_15 rfl (lv_at hl 1 rfl) ?_
    refine va_iald hx hb hK hP 1 0 rfl rfl (vp_in_nI (show k < 13 by omega) (by decide)) dX1_reverse_16 ?_
    refine lv_topi (fun y9 ey9 => ?_)
    obtain rfl : y9 = mt k := ey9.trans (congrArg mt (nI_clamp (show k < 2 ^ 31 by omega)))
    refine lv_istore_n (lv' := [(2, .int (mt k)), (0, .ref (h 0)), (1, .int (nI k))]) hx hb dX1_reverse_17 rfl hl (by decide) rfl (fun ls hl => ?_)
    refine lv_aload_n hx hb dX1_reverse_18 rfl (lv_at hl 1 rfl) ?_
    refine va_get (D := D) (ci := 1) (v := .ref (h 1)) (C := RX1) (T := TX1) (N := 5) hx hb hts in_X1 hown hK hP 0 rfl rfl 0 (by decide) (hts _ q156) (fun _ h9 => h9) rfl dX1_reverse_19 ?_
    refine lv_iload_n hx hb dX1_reverse_22 rfl (lv_at hl 2 rfl) ?_
    refine lv_aload_n hx hb dX1_reverse_23 rfl (lv_at hl 1 rfl) ?_
    refine va_get (D := D) (ci := 1) (v := .ref (h 2)) (C := RX1) (T := TX1) (N := 5) hx hb hts in_X1 hown hK hP 0 rfl rfl 1 (by decide) (hts _ q157) (fun _ h9 => h9) rfl dX1_reverse_24 ?_
    refine lv_iload_n hx hb dX1_reverse_27 rfl (lv_at hl 2 rfl) ?_
    refine va_iald hx hb hK hP 2 0 rfl rfl (vp_in_nI (show k < 13 by omega) (by decide)) dX1_reverse_28 ?_
    refine lv_topi (fun y9 ey9 => ?_)
    obtain rfl : y9 = mh k := ey9.trans (congrArg mh (nI_clamp (show k < 2 ^ 31 by omega)))
    refine va_iast hx hb hK hP hD hS 1 0 rfl rfl (vp_in_nI (show k < 13 by omega) (by decide)) dX1_reverse_29 (fun H locs hP hD hS => ?_)
    rw [nI_clamp (show k < 2 ^ 31 by omega)] at hP hD
    have hP : va_P D vwCl (mw d h (nI n) (upd mt k (mh k)) mh ml mi) H := hP
    have hD : va_D A (mw d h (nI n) (upd mt k (mh k)) mh ml mi) := hD
    refine lv_aload_n hx hb dX1_reverse_30 rfl (lv_at hl 1 rfl) ?_
    refine va_get (D := D) (ci := 1) (v := .ref (h 2)) (C := RX1) (T := TX1) (N := 5) hx hb hts in_X1 hown hK hP 0 rfl rfl 1 (by decide) (hts _ q157) (fun _ h9 => h9) rfl dX1_reverse_31 ?_
    refine lv_iload_n hx hb dX1_reverse_34 rfl (lv_at hl 2 rfl) ?_
    refine lv_iload_n hx hb dX1_reverse_35 rfl (lv_at hl 0 rfl) ?_
    refine va_iast hx hb hK hP hD hS 2 0 rfl rfl (vp_in_nI (show k < 13 by omega) (by decide)) dX1_reverse_36 (fun H locs hP hD hS => ?_)
    rw [nI_clamp (show k < 2 ^ 31 by omega)] at hP hD
    have hP : va_P D vwCl (mw d h (nI n) (upd mt k (mh k)) (upd mh k (mt k)) ml mi) H := hP
    have hD : va_D A (mw d h (nI n) (upd mt k (mh k)) (upd mh k (mt k)) ml mi) := hD
    refine lv_iconst (v := (nI 0)) hx hb dX1_reverse_37 (by decide) ?_
    exact cr_iret (nI n, upd mt k (mh k), upd mh k (mt k), ml, mi) hx hb hr hlocks hK hP hD hS dX1_reverse_38 (Or.inr ⟨k, hk, rfl, rfl, rfl⟩)
  · have q : ¬ cr_ia n a := by
      unfold cr_ia
      intro z
      rw [if_pos z] at hw
      rw [hw] at c1
      exact absurd c1 (by decide)
    refine lv_bipush (v := (-4)) hx hb dX1_reverse_8 (by decide) ?_
    exact cr_iret (nI n, mt, mh, ml, mi) hx hb hr hlocks hK hP hD hS dX1_reverse_10 (Or.inl ⟨q, rfl, rfl⟩)
set_option maxHeartbeats 4000000 in
set_option maxRecDepth 100000 in
/-- arc(from, to, most) -/
theorem metX1_arc (l : Launch) (D : va_G) (d : ClassId) (h : Nat → Nat) (sz : Nat) (n : Nat) (mt mh ml mi : Nat → Int32) (hn2 : n ≤ 12) (f9 t9 m9 : Int32) : cr_Mi l D d (mw d h (nI n) mt mh ml mi) sz yX1_arc cX1_arc 4 (some .int) 1 24 [.ref (h 0), .int f9, .int t9, .int m9] (S := cr_U) (fun r u => cr_Parc n (nI n, mt, mh, ml, mi) f9 t9 m9 r u) (fun u => mw d h u.1 u.2.1 u.2.2.1 u.2.2.2.1 u.2.2.2.2) := by
  refine cr_begin (Qc := fun A => va_Qi _ (cr_Bh D d A _) A) (by decide) (Nat.le_of_ble_eq_true rfl) ?_
  intro p env s m below meth c A ls hx hb hr hml hts hown hlocks hA hP hK hD hS hl
  have hown : s.vm.findClass RX1 = some m.cls := hown
  have hl : lv_has ls 4 [(0, .ref (h 0)), (1, .int f9), (2, .int t9), (3, .int m9)] := hl
  refine lv_aload_n hx hb dX1_arc_0 rfl (lv_at hl 0 rfl) ?_
  refine lv_iload_n hx hb dX1_arc_1 rfl (lv_at hl 1 rfl) ?_
  refine cr_selfi (As := [.int f9]) (rest := []) ⟨hx, hb, hml, hown, hts⟩ (metX1_isVertex l D d h s.heap.size n mt mh ml mi f9) (cwV 1 hts (lw_V q176 q178 qs9 q17 q179) rfl rfl rfl (by decide +kernel) ⟨Nat.le_of_ble_eq_true rfl, Nat.le_of_ble_eq_true rfl⟩) hK hP hD hS hA (ci := 1) rfl rfl rfl hl.1 rfl (Nat.le_of_ble_eq_true rfl) dX1_arc_2 ⟨Nat.le_refl _, Nat.le_refl _⟩ (fun r1 u H locs hw hP hD hS => ?_)
  have hP : va_P D vwCl (mw d h (nI n) mt mh ml mi) H := hP
  have hD : va_D A (mw d h (nI n) mt mh ml mi) := hD
  refine lv_if_eq (tgt := 21) hx hb dX1_arc_5 (by decide) (fun cp1 => ?_) (fun cp1 => ?_)
  · have p1 : ¬ (0 ≤ f9.toInt ∧ f9.toInt < 6) := by
      intro z
      rw [if_pos z] at hw
      rw [hw] at cp1
      exact absurd cp1 (by decide)
    refine lv_iconst (v := (-1)) hx hb dX1_arc_21 (by decide) ?_
    exact cr_iret (nI n, mt, mh, ml, mi) hx hb hr hlocks hK hP hD hS dX1_arc_22 (Or.inl ⟨fun z => p1 z.1, rfl, rfl⟩)
  · have p1 : 0 ≤ f9.toInt ∧ f9.toInt < 6 := by
      by_cases z : 0 ≤ f9.toInt ∧ f9.toInt < 6
      · exact z
      · rw [if_neg z] at hw; exact absurd hw cp1
    refine lv_aload_n hx hb dX1_arc_8 rfl (lv_at hl 0 rfl) ?_
    refine lv_iload_n hx hb dX1_arc_9 rfl (lv_at hl 2 rfl) ?_
    refine cr_selfi (As := [.int t9]) (rest := []) ⟨hx, hb, hml, hown, hts⟩ (metX1_isVertex l D d h H.size n mt mh ml mi t9) (cwV 1 hts (lw_V q176 q178 qs9 q17 q179) rfl rfl rfl (by decide +kernel) ⟨Nat.le_of_ble_eq_true rfl, Nat.le_of_ble_eq_true rfl⟩) hK hP hD hS hA (ci := 1) rfl rfl rfl hl.1 rfl (Nat.le_of_ble_eq_true rfl) dX1_arc_10 ⟨Nat.le_refl _, Nat.le_refl _⟩ (fun r2 u H locs hw hP hD hS => ?_)
    have hP : va_P D vwCl (mw d h (nI n) mt mh ml mi) H := hP
    have hD : va_D A (mw d h (nI n) mt mh ml mi) := hD
    refine lv_if_eq (tgt := 21) hx hb dX1_arc_13 (by decide) (fun cp2 => ?_) (fun cp2 => ?_)
    · have p2 : ¬ (0 ≤ t9.toInt ∧ t9.toInt < 6) := by
        intro z
        rw [if_pos z] at hw
        rw [hw] at cp2
        exact absurd cp2 (by decide)
      refine lv_iconst (v := (-1)) hx hb dX1_arc_21 (by decide) ?_
      exact cr_iret (nI n, mt, mh, ml, mi) hx hb hr hlocks hK hP hD hS dX1_arc_22 (Or.inl ⟨fun z => p2 z.2.1, rfl, rfl⟩)
    · have p2 : 0 ≤ t9.toInt ∧ t9.toInt < 6 := by
        by_cases z : 0 ≤ t9.toInt ∧ t9.toInt < 6
        · exact z
        · rw [if_neg z] at hw; exact absurd hw cp2
      refine lv_iload_n hx hb dX1_arc_16 rfl (lv_at hl 1 rfl) ?_
      refine lv_iload_n hx hb dX1_arc_17 rfl (lv_at hl 2 rfl) ?_
      refine lv_icmp_ne (tgt := 23) hx hb dX1_arc_18 (by decide) (fun c3 => ?_) (fun c3 => ?_)
      · have hv : cr_gv f9 t9 := ⟨p1, p2, c3⟩
        refine lv_iload_n hx hb dX1_arc_23 rfl (lv_at hl 3 rfl) ?_
        refine lv_if_lt (tgt := 33) hx hb dX1_arc_24 (by decide) (fun c4 => ?_) (fun c4 => ?_)
        · refine lv_bipush (v := (-2)) hx hb dX1_arc_33 (by decide) ?_
          have ha : ¬ cr_ga m9 := by
            unfold cr_ga
            rw [cr_lt0] at c4
            omega
          exact cr_iret (nI n, mt, mh, ml, mi) hx hb hr hlocks hK hP hD hS dX1_arc_35 (Or.inr (Or.inl ⟨hv, ha, rfl, rfl⟩))
        · rw [cr_lt0] at c4
          refine lv_iload_n hx hb dX1_arc_27 rfl (lv_at hl 3 rfl) ?_
          refine lv_bipush (v := (nI 20)) hx hb dX1_arc_28 (by decide) ?_
          refine lv_icmp_le (tgt := 36) hx hb dX1_arc_30 (by decide) (fun c5 => ?_) (fun c5 => ?_)
          · rw [Int32.le_iff_toInt_le, show (nI 20).toInt = 20 from rfl] at c5
            have ha : cr_ga m9 := ⟨by omega, c5⟩
            refine lv_aload_n hx hb dX1_arc_36 rfl (lv_at hl 0 rfl) ?_
            refine va_get (D := D) (ci := 1) (v := .int (nI n)) (C := RX1) (T := TX1) (N := 5) hx hb hts in_X1 hown hK hP 0 rfl rfl 4 (by decide) (hts _ q160) (fun _ h9 => h9) rfl dX1_arc_37 ?_
            refine lv_bipush (v := (nI 12)) hx hb dX1_arc_40 (by decide) ?_
            refine lv_icmp_ne (tgt := 48) hx hb dX1_arc_42 (by decide) (fun c6 => ?_) (fun c6 => ?_)
            · have q : n < 12 := by have := cr_ne (by omega) (by decide) c6; omega
              refine lv_aload_n hx hb dX1_arc_48 rfl (lv_at hl 0 rfl) ?_
              refine lv_iload_n hx hb dX1_arc_49 rfl (lv_at hl 1 rfl) ?_
              refine lv_iload_n hx hb dX1_arc_50 rfl (lv_at hl 2 rfl) ?_
              refine lv_iconst (v := (nI 0)) hx hb dX1_arc_51 (by decide) ?_
              refine lv_iload_n hx hb dX1_arc_52 rfl (lv_at hl 3 rfl) ?_
              refine cr_selfv (As := [.int f9, .int t9, .int (nI 0), .int m9]) (rest := []) ⟨hx, hb, hml, hown, hts⟩ (metX1_place l D d h H.size n mt mh ml mi f9 t9 (nI 0) m9 (by omega)) (cwV 4 hts (lw_V q180 q182 qs10 q17 q183) rfl rfl rfl (by decide +kernel) ⟨Nat.le_of_ble_eq_true rfl, Nat.le_of_ble_eq_true rfl⟩) hK hP hD hS hA (ci := 1) rfl rfl rfl hl.1 rfl (Nat.le_of_ble_eq_true rfl) dX1_arc_53 ⟨Nat.le_refl _, Nat.le_refl _⟩ (fun u H locs hw hP hD hS => ?_)
              have hP : va_P D vwCl (mw d h (nI n) (upd mt n f9) (upd mh n t9) (upd ml n (nI 0)) (upd mi n m9)) H := hP
              have hD : va_D A (mw d h (nI n) (upd mt n f9) (upd mh n t9) (upd ml n (nI 0)) (upd mi n m9)) := hD
              refine lv_aload_n hx hb dX1_arc_56 rfl (lv_at hl 0 rfl) ?_
              refine lv_dup hx hb dX1_arc_57 rfl ?_
              refine va_get (D := D) (ci := 1) (v := .int (nI n)) (C := RX1) (T := TX1) (N := 5) hx hb hts in_X1 hown hK hP 0 rfl rfl 4 (by decide) (hts _ q160) (fun _ h9 => h9) rfl dX1_arc_58 ?_
              refine lv_iconst (v := (nI 1)) hx hb dX1_arc_61 (by decide) ?_
              refine lv_iadd hx hb dX1_arc_62 ?_
              refine lv_topi (fun y9 ey9 => ?_)
              obtain rfl : y9 = nI (n + 1) := ey9.trans (nI_1 n)
              refine va_put (D := D) (ci := 1) (v := .int (nI (n + 1))) (ty := .int) (C := RX1) (T := TX1) (N := 5) hx hb hts in_X1 tyX1 tyX1_ok nmX1 hown hK hP hD hS 0 rfl rfl 4 (by decide) (hts _ q160) (fun _ h9 => h9) rfl (by decide +kernel) rfl rfl (Nat.le_of_ble_eq_true rfl) dX1_arc_63 (fun H locs hP hD hS => ?_)
              have hP : va_P D vwCl (mw d h (nI (n + 1)) (upd mt n f9) (upd mh n t9) (upd ml n (nI 0)) (upd mi n m9)) H := hP
              have hD : va_D A (mw d h (nI (n + 1)) (upd mt n f9) (upd mh n t9) (upd ml n (nI 0)) (upd mi n m9)) := hD
              refine lv_aload_n hx hb dX1_arc_66 rfl (lv_at hl 0 rfl) ?_
              refine va_get (D := D) (ci := 1) (v := .int (nI (n + 1))) (C := RX1) (T := TX1) (N := 5) hx hb hts in_X1 hown hK hP 0 rfl rfl 4 (by decide) (hts _ q160) (fun _ h9 => h9) rfl dX1_arc_67 ?_
              refine lv_iconst (v := (nI 1)) hx hb dX1_arc_70 (by decide) ?_
              refine lv_isub hx hb dX1_arc_71 ?_
              refine lv_topi (fun y9 ey9 => ?_)
              obtain rfl : y9 = nI n := ey9.trans (nI_pred n)
              exact cr_iret (nI (n + 1), upd mt n f9, upd mh n t9, upd ml n (nI 0), upd mi n m9) hx hb hr hlocks hK hP hD hS dX1_arc_72 (Or.inr (Or.inr (Or.inr ⟨hv, ha, q, rfl, rfl⟩)))
            · have q : n = 12 := cr_eq (by omega) (by decide) c6
              refine lv_bipush (v := (-3)) hx hb dX1_arc_45 (by decide) ?_
              exact cr_iret (nI n, mt, mh, ml, mi) hx hb hr hlocks hK hP hD hS dX1_arc_47 (Or.inr (Or.inr (Or.inl ⟨hv, ha, q, rfl, rfl⟩)))
          · refine lv_bipush (v := (-2)) hx hb dX1_arc_33 (by decide) ?_
            have ha : ¬ cr_ga m9 := by
              unfold cr_ga
              rw [Int32.le_iff_toInt_le, show (nI 20).toInt = 20 from rfl] at c5
              omega
            exact cr_iret (nI n, mt, mh, ml, mi) hx hb hr hlocks hK hP hD hS dX1_arc_35 (Or.inr (Or.inl ⟨hv, ha, rfl, rfl⟩))
      · refine lv_iconst (v := (-1)) hx hb dX1_arc_21 (by decide) ?_
        exact cr_iret (nI n, mt, mh, ml, mi) hx hb hr hlocks hK hP hD hS dX1_arc_22 (Or.inl ⟨fun z => z.2.2 c3, rfl, rfl⟩)
set_option maxHeartbeats 4000000 in
set_option maxRecDepth 100000 in
/-- possible() -/
theorem metX1_possible (l : Launch) (D : va_G) (d : ClassId) (h : Nat → Nat) (sz : Nat) (n : Nat) (mt mh ml mi : Nat → Int32) (hAr : cr_Arcs n mt mh ml mi) : cr_Mi l D d (mw d h (nI n) mt mh ml mi) sz yX1_possible cX1_possible 1 (some .boolean) 2 50 [.ref (h 0)] (S := Unit) (fun r _ => cr_PP (cr_n mt) (cr_n mh) (cr_i ml) (cr_i mi) n r) (fun _ => mw d h (nI n) mt mh ml mi) := by
  refine cr_begin (Qc := fun A => va_Qi _ (cr_Bh D d A _) A) (by decide) (Nat.le_of_ble_eq_true rfl) ?_
  intro p env s m below meth c A ls hx hb hr hml hts hown hlocks hA hP hK hD hS hl
  have hown : s.vm.findClass RX1 = some m.cls := hown
  have hl : lv_has ls 1 [(0, .ref (h 0))] := hl
  have hn12 := hAr.1
  refine lv_aload_n hx hb dX1_possible_0 rfl (lv_at hl 0 rfl) ?_
  refine lv_aload_n hx hb dX1_possible_1 rfl (lv_at hl 0 rfl) ?_
  refine va_get (D := D) (ci := 1) (v := .int (nI n)) (C := RX1) (T := TX1) (N := 5) hx hb hts in_X1 hown hK hP 0 rfl rfl 4 (by decide) (hts _ q160) (fun _ h9 => h9) rfl dX1_possible_2 ?_
  refine cr_selfi (As := [.int (nI n)]) (rest := []) ⟨hx, hb, hml, hown, hts⟩ (metX1_worst l D d h s.heap.size n mt mh ml mi n (by omega) (cr_Arcs_MOK hAr)) (cwV 1 hts (lw_V q204 q206 qs12 q17 q207) rfl rfl rfl (by decide +kernel) ⟨Nat.le_of_ble_eq_true rfl, Nat.le_of_ble_eq_true rfl⟩) hK hP hD hS hA (ci := 1) rfl rfl rfl hl.1 rfl (Nat.le_of_ble_eq_true rfl) dX1_possible_5 ⟨Nat.le_refl _, Nat.le_refl _⟩ (fun r u H locs hw hP hD hS => ?_)
  have hP : va_P D vwCl (mw d h (nI n) mt mh ml mi) H := hP
  have hD : va_D A (mw d h (nI n) mt mh ml mi) := hD
  refine lv_if_ne (tgt := 15) hx hb dX1_possible_8 (by decide) (fun c1 => ?_) (fun c1 => ?_)
  · refine lv_iconst (v := (nI 0)) hx hb dX1_possible_15 (by decide) ?_
    exact cr_zret () hx hb hr hlocks rfl hK hP hD hS dX1_possible_16 (⟨_, hw, show nI 0 = _ from (if_neg (cr_i_0n c1)).symm⟩)
  · refine lv_iconst (v := (nI 1)) hx hb dX1_possible_11 (by decide) ?_
    refine lv_goto (tgt := 16) hx hb dX1_possible_12 (by decide) ?_
    exact cr_zret () hx hb hr hlocks rfl hK hP hD hS dX1_possible_16 (⟨_, hw, show nI 1 = _ from (if_pos (cr_i_0.mp c1)).symm⟩)
set_option maxHeartbeats 4000000 in
set_option maxRecDepth 100000 in
/-- lack() -/
theorem metX1_lack (l : Launch) (D : va_G) (d : ClassId) (h : Nat → Nat) (sz : Nat) (n : Nat) (mt mh ml mi : Nat → Int32) (hAr : cr_Arcs n mt mh ml mi) : cr_Mi l D d (mw d h (nI n) mt mh ml mi) sz yX1_lack cX1_lack 1 (some .int) 2 50 [.ref (h 0)] (S := Unit) (fun r _ => cr_wst (cr_n mt) (cr_n mh) (cr_i ml) (cr_i mi) n r.toInt) (fun _ => mw d h (nI n) mt mh ml mi) := by
  refine cr_begin (Qc := fun A => va_Qi _ (cr_Bh D d A _) A) (by decide) (Nat.le_of_ble_eq_true rfl) ?_
  intro p env s m below meth c A ls hx hb hr hml hts hown hlocks hA hP hK hD hS hl
  have hown : s.vm.findClass RX1 = some m.cls := hown
  have hl : lv_has ls 1 [(0, .ref (h 0))] := hl
  have hn12 := hAr.1
  refine lv_aload_n hx hb dX1_lack_0 rfl (lv_at hl 0 rfl) ?_
  refine lv_aload_n hx hb dX1_lack_1 rfl (lv_at hl 0 rfl) ?_
  refine va_get (D := D) (ci := 1) (v := .int (nI n)) (C := RX1) (T := TX1) (N := 5) hx hb hts in_X1 hown hK hP 0 rfl rfl 4 (by decide) (hts _ q160) (fun _ h9 => h9) rfl dX1_lack_2 ?_
  refine cr_selfi (As := [.int (nI n)]) (rest := []) ⟨hx, hb, hml, hown, hts⟩ (metX1_worst l D d h s.heap.size n mt mh ml mi n (by omega) (cr_Arcs_MOK hAr)) (cwV 1 hts (lw_V q204 q206 qs12 q17 q207) rfl rfl rfl (by decide +kernel) ⟨Nat.le_of_ble_eq_true rfl, Nat.le_of_ble_eq_true rfl⟩) hK hP hD hS hA (ci := 1) rfl rfl rfl hl.1 rfl (Nat.le_of_ble_eq_true rfl) dX1_lack_5 ⟨Nat.le_refl _, Nat.le_refl _⟩ (fun r u H locs hw hP hD hS => ?_)
  have hP : va_P D vwCl (mw d h (nI n) mt mh ml mi) H := hP
  have hD : va_D A (mw d h (nI n) mt mh ml mi) := hD
  exact cr_iret () hx hb hr hlocks hK hP hD hS dX1_lack_8 (hw)
set_option maxHeartbeats 4000000 in
set_option maxRecDepth 100000 in
/-- the sets with the greatest lack -/
theorem lpX1_lackingSet_14 {p : Program} {l : Launch} {env : Env} {s : State} {m : MethodId} {args : Array Value} {below : List Frame} {meth : Method} {c : Code} {Q : State → Prop} {D : va_G} {d : ClassId} {h : Nat → Nat} {A : Nat → Prop} (hx : p.tables.exec = Jvm.exec) (hb : c.code = cX1_lackingSet) (hml : c.maxLocals = 4) (hown : s.vm.findClass RX1 = some m.cls) (hts : ∀ w ∈ lw_all, w.before args s = true) (hA : ∀ q, s.heap.size ≤ q → A q) (hK : va_K D vwCl [(d, .int)] s) (n : Nat) (mt mh ml mi : Nat → Int32) (hAr : cr_Arcs n mt mh ml mi) (mo : Int32)
    (K : ∀ (c9 : Nat) (H : Heap) (locs : List Loc) (ls : Array Slot), (c9 < 64) → (∀ v, v < 6 → (c9.testBit v = true ↔ ∀ j, j < 64 → cr_mlk mt mh ml mi j n = mo.toInt → j.testBit v = true)) → va_P D vwCl (mw d h (nI n) mt mh ml mi) H → va_D A (mw d h (nI n) mt mh ml mi) → va_S A s.heap H locs → lv_has ls 4 [(3, .int (nI 64)), (2, .int (nI c9)), (0, .ref (h 0)), (1, .int mo)] → W p l env ({ frames := 2, cells := 0, slots := 0, locals := 50 } : Room) s m args below meth c H locs 0 0 Q (F0 m 43 ls []))
    : ∀ (n1 : Nat) (k c9 : Nat) (H : Heap) (locs : List Loc) (ls : Array Slot), (k ≤ 64) → (65 ≤ k + n1) → (c9 < 64) → (∀ v, v < 6 → (c9.testBit v = true ↔ ∀ j, j < k → cr_mlk mt mh ml mi j n = mo.toInt → j.testBit v = true)) → va_P D vwCl (mw d h (nI n) mt mh ml mi) H → va_D A (mw d h (nI n) mt mh ml mi) → va_S A s.heap H locs → lv_has ls 4 [(3, .int (nI k)), (2, .int (nI c9)), (0, .ref (h 0)), (1, .int mo)] → W p l env ({ frames := 2, cells := 0, slots := 0, locals := 50 } : Room) s m args below meth c H locs 0 0 Q (F0 m 14 ls []) := by
  intro n1
  induction n1 with
  | zero =>
    intro k c9 H locs ls h1 h2 h3 h4
    exfalso
    omega
  | succ n1 ih =>
    intro k c9 H locs ls h1 h2 h3 h4 hP hD hS hl
    have hn12 := hAr.1
    refine lv_iload_n hx hb dX1_lackingSet_14 rfl (lv_at hl 0 rfl) ?_
    refine lv_bipush (v := (nI 64)) hx hb dX1_lackingSet_15 (by decide) ?_
    refine lv_icmp_ge (tgt := 43) hx hb dX1_lackingSet_17 (by decide) (fun c1 => ?_) (fun c1 => ?_)
    · have q : k = 64 := by have := cr_le (by omega) (by omega) c1; omega
      subst q
      exact K c9 H locs ls h3 h4 hP hD hS hl
    · have q : k < 64 := cr_nle (by omega) (by omega) c1
      refine lv_aload_n hx hb dX1_lackingSet_20 rfl (lv_at hl 2 rfl) ?_
      refine lv_iload_n hx hb dX1_lackingSet_21 rfl (lv_at hl 0 rfl) ?_
      refine lv_aload_n hx hb dX1_lackingSet_22 rfl (lv_at hl 2 rfl) ?_
      refine va_get (D := D) (ci := 1) (v := .int (nI n)) (C := RX1) (T := TX1) (N := 5) hx hb hts in_X1 hown hK hP 0 rfl rfl 4 (by decide) (hts _ q160) (fun _ h9 => h9) rfl dX1_lackingSet_23 ?_
      refine cr_selfi (As := [.int (nI k), .int (nI n)]) (rest := []) ⟨hx, hb, hml, hown, hts⟩ (metX1_lackOf l D d h H.size n mt mh ml mi k n q (by omega) (cr_Arcs_MOK hAr)) (cwV 2 hts (lw_V q208 q210 qs13 q17 q211) rfl rfl rfl (by decide +kernel) ⟨Nat.le_of_ble_eq_true rfl, Nat.le_of_ble_eq_true rfl⟩) hK hP hD hS hA (ci := 1) rfl rfl rfl hl.1 rfl (Nat.le_of_ble_eq_true rfl) dX1_lackingSet_26 ⟨Nat.le_refl _, Nat.le_refl _⟩ (fun r u H locs hw hP hD hS => ?_)
      have hP : va_P D vwCl (mw d h (nI n) mt mh ml mi) H := hP
      have hD : va_D A (mw d h (nI n) mt mh ml mi) := hD
      refine lv_iload_n hx hb dX1_lackingSet_29 rfl (lv_at hl 3 rfl) ?_
      refine lv_icmp_ne (tgt := 37) hx hb dX1_lackingSet_30 (by decide) (fun c2 => ?_) (fun c2 => ?_)
      · refine lv_iinc (v := (nI (k + 1))) (lv' := [(3, .int (nI (k + 1))), (2, .int (nI c9)), (0, .ref (h 0)), (1, .int mo)]) hx hb dX1_lackingSet_37 hl (k := 0) rfl (cr_inc k) (by decide) rfl (fun ls hl => ?_)
        refine lv_goto (tgt := 14) hx hb dX1_lackingSet_40 (by decide) ?_
        refine ih (k + 1) c9 H locs ls q (by omega) h3 (fun v hv => (h4 v hv).trans ⟨fun z j hj e => ?_, fun z j hj e => z j (by omega) e⟩) hP hD hS (lv_sub hl [0, 1, 2, 3] rfl)
        by_cases ej : j = k
        · rw [ej, ← hw] at e; exact absurd (Int32.toInt_inj.mp e) c2
        · exact z j (by omega) e
      · refine lv_iload_n hx hb dX1_lackingSet_33 rfl (lv_at hl 1 rfl) ?_
        refine lv_iload_n hx hb dX1_lackingSet_34 rfl (lv_at hl 0 rfl) ?_
        refine lv_iand hx hb dX1_lackingSet_35 ?_
        refine lv_topi (fun y9 ey9 => ?_)
        obtain rfl : y9 = nI (c9 &&& k) := ey9.trans (fa_and c9 k)
        refine lv_istore_n (lv' := [(2, .int (nI (c9 &&& k))), (3, .int (nI k)), (0, .ref (h 0)), (1, .int mo)]) hx hb dX1_lackingSet_36 rfl hl (by decide) rfl (fun ls hl => ?_)
        refine lv_iinc (v := (nI (k + 1))) (lv' := [(3, .int (nI (k + 1))), (2, .int (nI (c9 &&& k))), (0, .ref (h 0)), (1, .int mo)]) hx hb dX1_lackingSet_37 hl (k := 1) rfl (cr_inc k) (by decide) rfl (fun ls hl => ?_)
        refine lv_goto (tgt := 14) hx hb dX1_lackingSet_40 (by decide) ?_
        refine ih (k + 1) _ H locs ls q (by omega) (Nat.lt_of_le_of_lt Nat.and_le_left h3) (fun v hv => ?_) hP hD hS (lv_sub hl [0, 1, 2, 3] rfl)
        rw [Nat.testBit_and, Bool.and_eq_true, h4 v hv]
        refine ⟨fun z j hj e => ?_, fun z => ⟨fun j hj e => z j (by omega) e, z k (by omega) (by rw [← hw, c2])⟩⟩
        by_cases ej : j = k
        · rw [ej]; exact z.2
        · exact z.1 j (by omega) e
set_option maxHeartbeats 4000000 in
set_option maxRecDepth 100000 in
/-- lackingSet() -/
theorem metX1_lackingSet (l : Launch) (D : va_G) (d : ClassId) (h : Nat → Nat) (sz : Nat) (n : Nat) (mt mh ml mi : Nat → Int32) (hAr : cr_Arcs n mt mh ml mi) : cr_Mi l D d (mw d h (nI n) mt mh ml mi) sz yX1_lackingSet cX1_lackingSet 4 (some .int) 2 50 [.ref (h 0)] (S := Unit) (fun r _ => cr_PS (cr_n mt) (cr_n mh) (cr_i ml) (cr_i mi) n r) (fun _ => mw d h (nI n) mt mh ml mi) := by
  refine cr_begin (Qc := fun A => va_Qi _ (cr_Bh D d A _) A) (by decide) (Nat.le_of_ble_eq_true rfl) ?_
  intro p env s m below meth c A ls hx hb hr hml hts hown hlocks hA hP hK hD hS hl
  have hown : s.vm.findClass RX1 = some m.cls := hown
  have hl : lv_has ls 4 [(0, .ref (h 0))] := hl
  have hn12 := hAr.1
  refine lv_aload_n hx hb dX1_lackingSet_0 rfl (lv_at hl 0 rfl) ?_
  refine lv_aload_n hx hb dX1_lackingSet_1 rfl (lv_at hl 0 rfl) ?_
  refine va_get (D := D) (ci := 1) (v := .int (nI n)) (C := RX1) (T := TX1) (N := 5) hx hb hts in_X1 hown hK hP 0 rfl rfl 4 (by decide) (hts _ q160) (fun _ h9 => h9) rfl dX1_lackingSet_2 ?_
  refine cr_selfi (As := [.int (nI n)]) (rest := []) ⟨hx, hb, hml, hown, hts⟩ (metX1_worst l D d h s.heap.size n mt mh ml mi n (by omega) (cr_Arcs_MOK hAr)) (cwV 1 hts (lw_V q204 q206 qs12 q17 q207) rfl rfl rfl (by decide +kernel) ⟨Nat.le_of_ble_eq_true rfl, Nat.le_of_ble_eq_true rfl⟩) hK hP hD hS hA (ci := 1) rfl rfl rfl hl.1 rfl (Nat.le_of_ble_eq_true rfl) dX1_lackingSet_5 ⟨Nat.le_refl _, Nat.le_refl _⟩ (fun r u H locs hw hP hD hS => ?_)
  have hP : va_P D vwCl (mw d h (nI n) mt mh ml mi) H := hP
  have hD : va_D A (mw d h (nI n) mt mh ml mi) := hD
  refine lv_istore_n (lv' := [(1, .int r), (0, .ref (h 0))]) hx hb dX1_lackingSet_8 rfl hl (by decide) rfl (fun ls hl => ?_)
  refine lv_bipush (v := (nI 63)) hx hb dX1_lackingSet_9 (by decide) ?_
  refine lv_istore_n (lv' := [(2, .int (nI 63)), (1, .int r), (0, .ref (h 0))]) hx hb dX1_lackingSet_11 rfl hl (by decide) rfl (fun ls hl => ?_)
  refine lv_iconst (v := (nI 0)) hx hb dX1_lackingSet_12 (by decide) ?_
  refine lv_istore_n (lv' := [(3, .int (nI 0)), (2, .int (nI 63)), (1, .int r), (0, .ref (h 0))]) hx hb dX1_lackingSet_13 rfl hl (by decide) rfl (fun ls hl => ?_)
  refine lpX1_lackingSet_14 hx hb hml hown hts hA hK n mt mh ml mi hAr r (fun c9 H locs ls hc hbits hP hD hS hl => ?_) 65 0 63 H locs ls (by omega) (by omega) (by decide) (fun v hv => ⟨fun _ j hj => absurd hj (Nat.not_lt_zero j), fun _ => cr_63 v hv⟩) hP hD hS (lv_sub hl [0, 1, 3, 2] rfl)
  refine lv_iload_n hx hb dX1_lackingSet_43 rfl (lv_at hl 1 rfl) ?_
  exact cr_iret () hx hb hr hlocks hK hP hD hS dX1_lackingSet_44 (⟨_, hw, c9, hc, rfl, hbits⟩)
set_option maxHeartbeats 4000000 in
set_option maxRecDepth 100000 in
/-- allows(arc, amount) -/
theorem metX1_allows (l : Launch) (D : va_G) (d : ClassId) (h : Nat → Nat) (sz : Nat) (n : Nat) (mt mh ml mi : Nat → Int32) (hAr : cr_Arcs n mt mh ml mi) (a : Nat) (x : Int32) (ha : a < n) (hx0 : 0 ≤ x.toInt) (hx1 : x.toInt ≤ 240) : cr_Mi l D d (mw d h (nI n) mt mh ml mi) sz yX1_allows cX1_allows 6 (some .boolean) 2 50 [.ref (h 0), .int (nI a), .int x] (S := Unit) (fun r _ => (r = nI 1 ∧ cr_alw (cr_n mt) (cr_n mh) (cr_up (cr_i ml) a x.toInt) (cr_up (cr_i mi) a x.toInt) n) ∨ (r = nI 0 ∧ ¬ cr_alw (cr_n mt) (cr_n mh) (cr_up (cr_i ml) a x.toInt) (cr_up (cr_i mi) a x.toInt) n)) (fun _ => mw d h (nI n) mt mh ml mi) := by
  refine cr_begin (Qc := fun A => va_Qi _ (cr_Bh D d A _) A) (by decide) (Nat.le_of_ble_eq_true rfl) ?_
  intro p env s m below meth c A ls hx hb hr hml hts hown hlocks hA hP hK hD hS hl
  have hown : s.vm.findClass RX1 = some m.cls := hown
  have hl : lv_has ls 6 [(0, .ref (h 0)), (1, .int (nI a)), (2, .int x)] := hl
  have hn12 := hAr.1
  refine lv_aload_n hx hb dX1_allows_0 rfl (lv_at hl 0 rfl) ?_
  refine va_get (D := D) (ci := 1) (v := .ref (h 3)) (C := RX1) (T := TX1) (N := 5) hx hb hts in_X1 hown hK hP 0 rfl rfl 2 (by decide) (hts _ q158) (fun _ h9 => h9) rfl dX1_allows_1 ?_
  refine lv_iload_n hx hb dX1_allows_4 rfl (lv_at hl 1 rfl) ?_
  refine va_iald hx hb hK hP 3 0 rfl rfl (vp_in_nI (show a < 13 by omega) (by decide)) dX1_allows_5 ?_
  refine lv_topi (fun y9 ey9 => ?_)
  obtain rfl : y9 = ml a := ey9.trans (congrArg ml (nI_clamp (show a < 2 ^ 31 by omega)))
  refine lv_istore_n (lv' := [(3, .int (ml a)), (0, .ref (h 0)), (1, .int (nI a)), (2, .int x)]) hx hb dX1_allows_6 rfl hl (by decide) rfl (fun ls hl => ?_)
  refine lv_aload_n hx hb dX1_allows_7 rfl (lv_at hl 1 rfl) ?_
  refine va_get (D := D) (ci := 1) (v := .ref (h 4)) (C := RX1) (T := TX1) (N := 5) hx hb hts in_X1 hown hK hP 0 rfl rfl 3 (by decide) (hts _ q159) (fun _ h9 => h9) rfl dX1_allows_8 ?_
  refine lv_iload_n hx hb dX1_allows_11 rfl (lv_at hl 2 rfl) ?_
  refine va_iald hx hb hK hP 4 0 rfl rfl (vp_in_nI (show a < 13 by omega) (by decide)) dX1_allows_12 ?_
  refine lv_topi (fun y9 ey9 => ?_)
  obtain rfl : y9 = mi a := ey9.trans (congrArg mi (nI_clamp (show a < 2 ^ 31 by omega)))
  refine lv_istore (lv' := [(4, .int (mi a)), (3, .int (ml a)), (0, .ref (h 0)), (1, .int (nI a)), (2, .int x)]) hx hb dX1_allows_13 hl (by decide) rfl (fun ls hl => ?_)
  refine lv_aload_n hx hb dX1_allows_15 rfl (lv_at hl 2 rfl) ?_
  refine va_get (D := D) (ci := 1) (v := .ref (h 3)) (C := RX1) (T := TX1) (N := 5) hx hb hts in_X1 hown hK hP 0 rfl rfl 2 (by decide) (hts _ q158) (fun _ h9 => h9) rfl dX1_allows_16 ?_
  refine lv_iload_n hx hb dX1_allows_19 rfl (lv_at hl 3 rfl) ?_
  refine lv_iload_n hx hb dX1_allows_20 rfl (lv_at hl 4 rfl) ?_
  refine va_iast hx hb hK hP hD hS 3 0 rfl rfl (vp_in_nI (show a < 13 by omega) (by decide)) dX1_allows_21 (fun H locs hP hD hS => ?_)
  rw [nI_clamp (show a < 2 ^ 31 by omega)] at hP hD
  have hP : va_P D vwCl (mw d h (nI n) mt mh (upd ml a x) mi) H := hP
  have hD : va_D A (mw d h (nI n) mt mh (upd ml a x) mi) := hD
  refine lv_aload_n hx hb dX1_allows_22 rfl (lv_at hl 2 rfl) ?_
  refine va_get (D := D) (ci := 1) (v := .ref (h 4)) (C := RX1) (T := TX1) (N := 5) hx hb hts in_X1 hown hK hP 0 rfl rfl 3 (by decide) (hts _ q159) (fun _ h9 => h9) rfl dX1_allows_23 ?_
  refine lv_iload_n hx hb dX1_allows_26 rfl (lv_at hl 3 rfl) ?_
  refine lv_iload_n hx hb dX1_allows_27 rfl (lv_at hl 4 rfl) ?_
  refine va_iast hx hb hK hP hD hS 4 0 rfl rfl (vp_in_nI (show a < 13 by omega) (by decide)) dX1_allows_28 (fun H locs hP hD hS => ?_)
  rw [nI_clamp (show a < 2 ^ 31 by omega)] at hP hD
  have hP : va_P D vwCl (mw d h (nI n) mt mh (upd ml a x) (upd mi a x)) H := hP
  have hD : va_D A (mw d h (nI n) mt mh (upd ml a x) (upd mi a x)) := hD
  refine lv_aload_n hx hb dX1_allows_29 rfl (lv_at hl 2 rfl) ?_
  refine lv_aload_n hx hb dX1_allows_30 rfl (lv_at hl 2 rfl) ?_
  refine va_get (D := D) (ci := 1) (v := .int (nI n)) (C := RX1) (T := TX1) (N := 5) hx hb hts in_X1 hown hK hP 0 rfl rfl 4 (by decide) (hts _ q160) (fun _ h9 => h9) rfl dX1_allows_31 ?_
  refine cr_selfi (As := [.int (nI n)]) (rest := []) ⟨hx, hb, hml, hown, hts⟩ (metX1_worst l D d h H.size n mt mh (upd ml a x) (upd mi a x) n (by omega) (cr_MOK_up (cr_Arcs_MOK hAr) a hx0 hx1)) (cwV 1 hts (lw_V q204 q206 qs12 q17 q207) rfl rfl rfl (by decide +kernel) ⟨Nat.le_of_ble_eq_true rfl, Nat.le_of_ble_eq_true rfl⟩) hK hP hD hS hA (ci := 1) rfl rfl rfl hl.1 rfl (Nat.le_of_ble_eq_true rfl) dX1_allows_34 ⟨Nat.le_refl _, Nat.le_refl _⟩ (fun r u H locs hw hP hD hS => ?_)
  have hP : va_P D vwCl (mw d h (nI n) mt mh (upd ml a x) (upd mi a x)) H := hP
  have hD : va_D A (mw d h (nI n) mt mh (upd ml a x) (upd mi a x)) := hD
  rw [cr_i_upd, cr_i_upd] at hw
  refine lv_if_ne (tgt := 44) hx hb dX1_allows_37 (by decide) (fun c1 => ?_) (fun c1 => ?_)
  · refine lv_iconst (v := (nI 0)) hx hb dX1_allows_44 (by decide) ?_
    refine lv_istore (lv' := [(5, .int (nI 0)), (4, .int (mi a)), (3, .int (ml a)), (0, .ref (h 0)), (1, .int (nI a)), (2, .int x)]) hx hb dX1_allows_45 hl (by decide) rfl (fun ls hl => ?_)
    refine lv_aload_n hx hb dX1_allows_47 rfl (lv_at hl 3 rfl) ?_
    refine va_get (D := D) (ci := 1) (v := .ref (h 3)) (C := RX1) (T := TX1) (N := 5) hx hb hts in_X1 hown hK hP 0 rfl rfl 2 (by decide) (hts _ q158) (fun _ h9 => h9) rfl dX1_allows_48 ?_
    refine lv_iload_n hx hb dX1_allows_51 rfl (lv_at hl 4 rfl) ?_
    refine lv_iload_n hx hb dX1_allows_52 rfl (lv_at hl 2 rfl) ?_
    refine va_iast hx hb hK hP hD hS 3 0 rfl rfl (vp_in_nI (show a < 13 by omega) (by decide)) dX1_allows_53 (fun H locs hP hD hS => ?_)
    rw [nI_clamp (show a < 2 ^ 31 by omega)] at hP hD
    have hP : va_P D vwCl (mw d h (nI n) mt mh (upd (upd ml a x) a (ml a)) (upd mi a x)) H := hP
    have hD : va_D A (mw d h (nI n) mt mh (upd (upd ml a x) a (ml a)) (upd mi a x)) := hD
    refine lv_aload_n hx hb dX1_allows_54 rfl (lv_at hl 3 rfl) ?_
    refine va_get (D := D) (ci := 1) (v := .ref (h 4)) (C := RX1) (T := TX1) (N := 5) hx hb hts in_X1 hown hK hP 0 rfl rfl 3 (by decide) (hts _ q159) (fun _ h9 => h9) rfl dX1_allows_55 ?_
    refine lv_iload_n hx hb dX1_allows_58 rfl (lv_at hl 4 rfl) ?_
    refine lv_iload hx hb dX1_allows_59 (lv_at hl 1 rfl) ?_
    refine va_iast hx hb hK hP hD hS 4 0 rfl rfl (vp_in_nI (show a < 13 by omega) (by decide)) dX1_allows_61 (fun H locs hP hD hS => ?_)
    rw [nI_clamp (show a < 2 ^ 31 by omega)] at hP hD
    have hP : va_P D vwCl (mw d h (nI n) mt mh (upd (upd ml a x) a (ml a)) (upd (upd mi a x) a (mi a))) H := hP
    have hD : va_D A (mw d h (nI n) mt mh (upd (upd ml a x) a (ml a)) (upd (upd mi a x) a (mi a))) := hD
    rw [cr_back, cr_back] at hP hD
    refine lv_iload hx hb dX1_allows_62 (lv_at hl 0 rfl) ?_
    exact cr_zret () hx hb hr hlocks rfl hK hP hD hS dX1_allows_64 (Or.inr ⟨rfl, cr_wst_no hw (cr_i_0n c1)⟩)
  · refine lv_iconst (v := (nI 1)) hx hb dX1_allows_40 (by decide) ?_
    refine lv_goto (tgt := 45) hx hb dX1_allows_41 (by decide) ?_
    refine lv_istore (lv' := [(5, .int (nI 1)), (4, .int (mi a)), (3, .int (ml a)), (0, .ref (h 0)), (1, .int (nI a)), (2, .int x)]) hx hb dX1_allows_45 hl (by decide) rfl (fun ls hl => ?_)
    refine lv_aload_n hx hb dX1_allows_47 rfl (lv_at hl 3 rfl) ?_
    refine va_get (D := D) (ci := 1) (v := .ref (h 3)) (C := RX1) (T := TX1) (N := 5) hx hb hts in_X1 hown hK hP 0 rfl rfl 2 (by decide) (hts _ q158) (fun _ h9 => h9) rfl dX1_allows_48 ?_
    refine lv_iload_n hx hb dX1_allows_51 rfl (lv_at hl 4 rfl) ?_
    refine lv_iload_n hx hb dX1_allows_52 rfl (lv_at hl 2 rfl) ?_
    refine va_iast hx hb hK hP hD hS 3 0 rfl rfl (vp_in_nI (show a < 13 by omega) (by decide)) dX1_allows_53 (fun H locs hP hD hS => ?_)
    rw [nI_clamp (show a < 2 ^ 31 by omega)] at hP hD
    have hP : va_P D vwCl (mw d h (nI n) mt mh (upd (upd ml a x) a (ml a)) (upd mi a x)) H := hP
    have hD : va_D A (mw d h (nI n) mt mh (upd (upd ml a x) a (ml a)) (upd mi a x)) := hD
    refine lv_aload_n hx hb dX1_allows_54 rfl (lv_at hl 3 rfl) ?_
    refine va_get (D := D) (ci := 1) (v := .ref (h 4)) (C := RX1) (T := TX1) (N := 5) hx hb hts in_X1 hown hK hP 0 rfl rfl 3 (by decide) (hts _ q159) (fun _ h9 => h9) rfl dX1_allows_55 ?_
    refine lv_iload_n hx hb dX1_allows_58 rfl (lv_at hl 4 rfl) ?_
    refine lv_iload hx hb dX1_allows_59 (lv_at hl 1 rfl) ?_
    refine va_iast hx hb hK hP hD hS 4 0 rfl rfl (vp_in_nI (show a < 13 by omega) (by decide)) dX1_allows_61 (fun H locs hP hD hS => ?_)
    rw [nI_clamp (show a < 2 ^ 31 by omega)] at hP hD
    have hP : va_P D vwCl (mw d h (nI n) mt mh (upd (upd ml a x) a (ml a)) (upd (upd mi a x) a (mi a))) H := hP
    have hD : va_D A (mw d h (nI n) mt mh (upd (upd ml a x) a (ml a)) (upd (upd mi a x) a (mi a))) := hD
    rw [cr_back, cr_back] at hP hD
    refine lv_iload hx hb dX1_allows_62 (lv_at hl 0 rfl) ?_
    exact cr_zret () hx hb hr hlocks rfl hK hP hD hS dX1_allows_64 (Or.inl ⟨rfl, cr_wst_yes hw (cr_i_0.mp c1)⟩)
set_option maxHeartbeats 4000000 in
set_option maxRecDepth 100000 in
/-- amount by amount -/
theorem lpX1_least_18 {p : Program} {l : Launch} {env : Env} {s : State} {m : MethodId} {args : Array Value} {below : List Frame} {meth : Method} {c : Code} {Q : State → Prop} {D : va_G} {d : ClassId} {h : Nat → Nat} {A : Nat → Prop} (hx : p.tables.exec = Jvm.exec) (hb : c.code = cX1_least) (hml : c.maxLocals = 3) (hown : s.vm.findClass RX1 = some m.cls) (hts : ∀ w ∈ lw_all, w.before args s = true) (hA : ∀ q, s.heap.size ≤ q → A q) (hK : va_K D vwCl [(d, .int)] s) (n : Nat) (mt mh ml mi : Nat → Int32) (hAr : cr_Arcs n mt mh ml mi) (a : Nat) (ha : a < n)
    (K1 : ∀ (x : Int32) (H : Heap) (locs : List Loc) (ls : Array Slot), ((ml a).toInt ≤ x.toInt) → (x.toInt ≤ (mi a).toInt) → (cr_alw (cr_n mt) (cr_n mh) (cr_up (cr_i ml) a x.toInt) (cr_up (cr_i mi) a x.toInt) n) → (∀ z, (ml a).toInt ≤ z → z < x.toInt → ¬ cr_alw (cr_n mt) (cr_n mh) (cr_up (cr_i ml) a z) (cr_up (cr_i mi) a z) n) → va_P D vwCl (mw d h (nI n) mt mh ml mi) H → va_D A (mw d h (nI n) mt mh ml mi) → va_S A s.heap H locs → lv_has ls 3 [(2, .int x), (0, .ref (h 0)), (1, .int (nI a))] → W p l env ({ frames := 3, cells := 0, slots := 0, locals := 75 } : Room) s m args below meth c H locs 0 0 Q (F0 m 37 ls []))
    (K2 : ∀ (x : Int32) (H : Heap) (locs : List Loc) (ls : Array Slot), (∀ z, (ml a).toInt ≤ z → z ≤ (mi a).toInt → ¬ cr_alw (cr_n mt) (cr_n mh) (cr_up (cr_i ml) a z) (cr_up (cr_i mi) a z) n) → va_P D vwCl (mw d h (nI n) mt mh ml mi) H → va_D A (mw d h (nI n) mt mh ml mi) → va_S A s.heap H locs → lv_has ls 3 [(2, .int x), (0, .ref (h 0)), (1, .int (nI a))] → W p l env ({ frames := 3, cells := 0, slots := 0, locals := 75 } : Room) s m args below meth c H locs 0 0 Q (F0 m 45 ls []))
    : ∀ (n1 : Nat) (x : Int32) (H : Heap) (locs : List Loc) (ls : Array Slot), ((ml a).toInt ≤ x.toInt) → (x.toInt ≤ (mi a).toInt + 1) → ((mi a).toInt + 2 ≤ x.toInt + n1) → (∀ z, (ml a).toInt ≤ z → z < x.toInt → ¬ cr_alw (cr_n mt) (cr_n mh) (cr_up (cr_i ml) a z) (cr_up (cr_i mi) a z) n) → va_P D vwCl (mw d h (nI n) mt mh ml mi) H → va_D A (mw d h (nI n) mt mh ml mi) → va_S A s.heap H locs → lv_has ls 3 [(2, .int x), (0, .ref (h 0)), (1, .int (nI a))] → W p l env ({ frames := 3, cells := 0, slots := 0, locals := 75 } : Room) s m args below meth c H locs 0 0 Q (F0 m 18 ls []) := by
  intro n1
  induction n1 with
  | zero =>
    intro x H locs ls h1 h2 h3 h4
    exfalso
    omega
  | succ n1 ih =>
    intro x H locs ls h1 h2 h3 h4 hP hD hS hl
    have hn12 := hAr.1
    obtain ⟨-, -, -, -, -, g1, g2, g3⟩ := hAr.2 a ha
    have g1 : 0 ≤ (ml a).toInt := g1
    have g2 : (ml a).toInt ≤ (mi a).toInt := g2
    have g3 : (mi a).toInt ≤ 20 := g3
    refine lv_iload_n hx hb dX1_least_18 rfl (lv_at hl 0 rfl) ?_
    refine lv_aload_n hx hb dX1_least_19 rfl (lv_at hl 1 rfl) ?_
    refine va_get (D := D) (ci := 1) (v := .ref (h 4)) (C := RX1) (T := TX1) (N := 5) hx hb hts in_X1 hown hK hP 0 rfl rfl 3 (by decide) (hts _ q159) (fun _ h9 => h9) rfl dX1_least_20 ?_
    refine lv_iload_n hx hb dX1_least_23 rfl (lv_at hl 2 rfl) ?_
    refine va_iald hx hb hK hP 4 0 rfl rfl (vp_in_nI (show a < 13 by omega) (by decide)) dX1_least_24 ?_
    refine lv_topi (fun y9 ey9 => ?_)
    obtain rfl : y9 = mi a := ey9.trans (congrArg mi (nI_clamp (show a < 2 ^ 31 by omega)))
    refine lv_icmp_gt (tgt := 45) hx hb dX1_least_25 (by decide) (fun c1 => ?_) (fun c1 => ?_)
    · rw [Int32.lt_iff_toInt_lt] at c1
      exact K2 x H locs ls (fun z hz1 hz2 => h4 z (by omega) (by omega)) hP hD hS hl
    · rw [Int32.lt_iff_toInt_lt] at c1
      refine lv_aload_n hx hb dX1_least_28 rfl (lv_at hl 1 rfl) ?_
      refine lv_iload_n hx hb dX1_least_29 rfl (lv_at hl 2 rfl) ?_
      refine lv_iload_n hx hb dX1_least_30 rfl (lv_at hl 0 rfl) ?_
      refine cr_selfi (As := [.int (nI a), .int x]) (rest := []) ⟨hx, hb, hml, hown, hts⟩ (metX1_allows l D d h H.size n mt mh ml mi hAr a x ha (by omega) (by omega)) (cwV 2 hts (lw_V q224 q226 qs14 q17 q227) rfl rfl rfl (by decide +kernel) ⟨Nat.le_of_ble_eq_true rfl, Nat.le_of_ble_eq_true rfl⟩) hK hP hD hS hA (ci := 1) rfl rfl rfl hl.1 rfl (Nat.le_of_ble_eq_true rfl) dX1_least_31 ⟨Nat.le_refl _, Nat.le_refl _⟩ (fun r u H locs hw hP hD hS => ?_)
      have hP : va_P D vwCl (mw d h (nI n) mt mh ml mi) H := hP
      have hD : va_D A (mw d h (nI n) mt mh ml mi) := hD
      refine lv_if_eq (tgt := 39) hx hb dX1_least_34 (by decide) (fun c2 => ?_) (fun c2 => ?_)
      · have hno : ¬ cr_alw (cr_n mt) (cr_n mh) (cr_up (cr_i ml) a x.toInt) (cr_up (cr_i mi) a x.toInt) n := by
          rcases hw with ⟨e, -⟩ | ⟨-, e⟩
          · rw [e] at c2; exact absurd c2 cr_1ne
          · exact e
        obtain ⟨x1, ex1⟩ : ∃ y : Int32, y = x + Int32.ofInt (1) := ⟨_, rfl⟩
        refine lv_iinc (v := x1) (lv' := [(2, .int x1), (0, .ref (h 0)), (1, .int (nI a))]) hx hb dX1_least_39 hl (k := 0) rfl ex1.symm (by decide) rfl (fun ls hl => ?_)
        have hx1 : x1.toInt = x.toInt + 1 := by rw [ex1, fb_addI (by rw [show (Int32.ofInt 1).toInt = 1 from rfl]; omega) (by rw [show (Int32.ofInt 1).toInt = 1 from rfl]; omega)]; rfl
        refine lv_goto (tgt := 18) hx hb dX1_least_42 (by decide) ?_
        refine ih x1 H locs ls (by omega) (by omega) (by omega) (fun z hz1 hz2 => ?_) hP hD hS (lv_sub hl [0, 1, 2] rfl)
        by_cases e : z = x.toInt
        · rw [e]; exact hno
        · exact h4 z (by omega) (by omega)
      · have hyes : cr_alw (cr_n mt) (cr_n mh) (cr_up (cr_i ml) a x.toInt) (cr_up (cr_i mi) a x.toInt) n := by
          rcases hw with ⟨-, e⟩ | ⟨e, -⟩
          · exact e
          · exact absurd e c2
        exact K1 x H locs ls (by omega) (by omega) hyes h4 hP hD hS (lv_sub hl [0, 1, 2] rfl)
set_option maxHeartbeats 4000000 in
set_option maxRecDepth 100000 in
/-- least(arc) -/
theorem metX1_least (l : Launch) (D : va_G) (d : ClassId) (h : Nat → Nat) (sz : Nat) (n : Nat) (mt mh ml mi : Nat → Int32) (hAr : cr_Arcs n mt mh ml mi) (a : Int32) : cr_Mi l D d (mw d h (nI n) mt mh ml mi) sz yX1_least cX1_least 3 (some .int) 3 75 [.ref (h 0), .int a] (S := Unit) (fun r _ => (¬ cr_ia n a ∧ r = -4) ∨ ∃ k, k < n ∧ a = nI k ∧ cr_PL (cr_n mt) (cr_n mh) (cr_i ml) (cr_i mi) n k r) (fun _ => mw d h (nI n) mt mh ml mi) := by
  refine cr_begin (Qc := fun A => va_Qi _ (cr_Bh D d A _) A) (by decide) (Nat.le_of_ble_eq_true rfl) ?_
  intro p env s m below meth c A ls hx hb hr hml hts hown hlocks hA hP hK hD hS hl
  have hown : s.vm.findClass RX1 = some m.cls := hown
  have hl : lv_has ls 3 [(0, .ref (h 0)), (1, .int a)] := hl
  refine lv_aload_n hx hb dX1_least_0 rfl (lv_at hl 0 rfl) ?_
  refine lv_iload_n hx hb dX1_least_1 rfl (lv_at hl 1 rfl) ?_
  refine cr_selfi (As := [.int a]) (rest := []) ⟨hx, hb, hml, hown, hts⟩ (metX1_isArc l D d h s.heap.size n mt mh ml mi a (by have := hAr.1; omega)) (cwV 1 hts (lw_V q188 q190 qs11 q17 q191) rfl rfl rfl (by decide +kernel) ⟨Nat.le_of_ble_eq_true rfl, Nat.le_of_ble_eq_true rfl⟩) hK hP hD hS hA (ci := 1) rfl rfl rfl hl.1 rfl (Nat.le_of_ble_eq_true rfl) dX1_least_2 ⟨Nat.le_refl _, Nat.le_refl _⟩ (fun r u H locs hw hP hD hS => ?_)
  have hP : va_P D vwCl (mw d h (nI n) mt mh ml mi) H := hP
  have hD : va_D A (mw d h (nI n) mt mh ml mi) := hD
  refine lv_if_ne (tgt := 11) hx hb dX1_least_5 (by decide) (fun c1 => ?_) (fun c1 => ?_)
  · have q : cr_ia n a := by
      unfold cr_ia
      by_cases z : 0 ≤ a.toInt ∧ a.toInt < n
      · exact z
      · rw [if_neg z] at hw; exact absurd hw c1
    have hn12 := hAr.1
    obtain ⟨k, hk, rfl⟩ := cr_ofI q (by omega)
    obtain ⟨-, -, -, -, -, g1, g2, g3⟩ := hAr.2 k hk
    have g1 : 0 ≤ (ml k).toInt := g1
    have g2 : (ml k).toInt ≤ (mi k).toInt := g2
    have g3 : (mi k).toInt ≤ 20 := g3
    refine lv_aload_n hx hb dX1_least_11 rfl (lv_at hl 0 rfl) ?_
    refine va_get (D := D) (ci := 1) (v := .ref (h 3)) (C := RX1) (T := TX1) (N := 5) hx hb hts in_X1 hown hK hP 0 rfl rfl 2 (by decide) (hts _ q158) (fun _ h9 => h9) rfl dX1_least_12 ?_
    refine lv_iload_n hx hb dX1_least_15 rfl (lv_at hl 1 rfl) ?_
    refine va_iald hx hb hK hP 3 0 rfl rfl (vp_in_nI (show k < 13 by omega) (by decide)) dX1_least_16 ?_
    refine lv_topi (fun y9 ey9 => ?_)
    obtain rfl : y9 = ml k := ey9.trans (congrArg ml (nI_clamp (show k < 2 ^ 31 by omega)))
    refine lv_istore_n (lv' := [(2, .int (ml k)), (0, .ref (h 0)), (1, .int (nI k))]) hx hb dX1_least_17 rfl hl (by decide) rfl (fun ls hl => ?_)
    refine lpX1_least_18 hx hb hml hown hts hA hK n mt mh ml mi hAr k hk (fun x H locs ls a1 a2 a3 a4 hP hD hS hl => ?_) (fun x H locs ls a1 hP hD hS hl => ?_) 30 (ml k) H locs ls (by omega) (by omega) (by omega) (fun z hz1 hz2 => by omega) hP hD hS (lv_sub hl [0, 1, 2] rfl)
    · refine lv_iload_n hx hb dX1_least_37 rfl (lv_at hl 0 rfl) ?_
      exact cr_iret () hx hb hr hlocks hK hP hD hS dX1_least_38 (Or.inr ⟨k, hk, rfl, Or.inr ⟨a1, a2, a3, a4⟩⟩)
    · refine lv_bipush (v := (-5)) hx hb dX1_least_45 (by decide) ?_
      exact cr_iret () hx hb hr hlocks hK hP hD hS dX1_least_47 (Or.inr ⟨k, hk, rfl, Or.inl ⟨rfl, a1⟩⟩)
  · have q : ¬ cr_ia n a := by
      unfold cr_ia
      intro z
      rw [if_pos z] at hw
      rw [hw] at c1
      exact absurd c1 (by decide)
    refine lv_bipush (v := (-4)) hx hb dX1_least_8 (by decide) ?_
    exact cr_iret () hx hb hr hlocks hK hP hD hS dX1_least_10 (Or.inl ⟨q, rfl⟩)
set_option maxHeartbeats 4000000 in
set_option maxRecDepth 100000 in
/-- amount by amount -/
theorem lpX1_most_18 {p : Program} {l : Launch} {env : Env} {s : State} {m : MethodId} {args : Array Value} {below : List Frame} {meth : Method} {c : Code} {Q : State → Prop} {D : va_G} {d : ClassId} {h : Nat → Nat} {A : Nat → Prop} (hx : p.tables.exec = Jvm.exec) (hb : c.code = cX1_most) (hml : c.maxLocals = 3) (hown : s.vm.findClass RX1 = some m.cls) (hts : ∀ w ∈ lw_all, w.before args s = true) (hA : ∀ q, s.heap.size ≤ q → A q) (hK : va_K D vwCl [(d, .int)] s) (n : Nat) (mt mh ml mi : Nat → Int32) (hAr : cr_Arcs n mt mh ml mi) (a : Nat) (ha : a < n)
    (K1 : ∀ (x : Int32) (H : Heap) (locs : List Loc) (ls : Array Slot), ((ml a).toInt ≤ x.toInt) → (x.toInt ≤ (mi a).toInt) → (cr_alw (cr_n mt) (cr_n mh) (cr_up (cr_i ml) a x.toInt) (cr_up (cr_i mi) a x.toInt) n) → (∀ z, x.toInt < z → z ≤ (mi a).toInt → ¬ cr_alw (cr_n mt) (cr_n mh) (cr_up (cr_i ml) a z) (cr_up (cr_i mi) a z) n) → va_P D vwCl (mw d h (nI n) mt mh ml mi) H → va_D A (mw d h (nI n) mt mh ml mi) → va_S A s.heap H locs → lv_has ls 3 [(2, .int x), (0, .ref (h 0)), (1, .int (nI a))] → W p l env ({ frames := 3, cells := 0, slots := 0, locals := 75 } : Room) s m args below meth c H locs 0 0 Q (F0 m 37 ls []))
    (K2 : ∀ (x : Int32) (H : Heap) (locs : List Loc) (ls : Array Slot), (∀ z, (ml a).toInt ≤ z → z ≤ (mi a).toInt → ¬ cr_alw (cr_n mt) (cr_n mh) (cr_up (cr_i ml) a z) (cr_up (cr_i mi) a z) n) → va_P D vwCl (mw d h (nI n) mt mh ml mi) H → va_D A (mw d h (nI n) mt mh ml mi) → va_S A s.heap H locs → lv_has ls 3 [(2, .int x), (0, .ref (h 0)), (1, .int (nI a))] → W p l env ({ frames := 3, cells := 0, slots := 0, locals := 75 } : Room) s m args below meth c H locs 0 0 Q (F0 m 45 ls []))
    : ∀ (n1 : Nat) (x : Int32) (H : Heap) (locs : List Loc) (ls : Array Slot), ((ml a).toInt ≤ x.toInt + 1) → (x.toInt ≤ (mi a).toInt) → (x.toInt + 2 ≤ (ml a).toInt + n1) → (∀ z, x.toInt < z → z ≤ (mi a).toInt → ¬ cr_alw (cr_n mt) (cr_n mh) (cr_up (cr_i ml) a z) (cr_up (cr_i mi) a z) n) → va_P D vwCl (mw d h (nI n) mt mh ml mi) H → va_D A (mw d h (nI n) mt mh ml mi) → va_S A s.heap H locs → lv_has ls 3 [(2, .int x), (0, .ref (h 0)), (1, .int (nI a))] → W p l env ({ frames := 3, cells := 0, slots := 0, locals := 75 } : Room) s m args below meth c H locs 0 0 Q (F0 m 18 ls []) := by
  intro n1
  induction n1 with
  | zero =>
    intro x H locs ls h1 h2 h3 h4
    exfalso
    omega
  | succ n1 ih =>
    intro x H locs ls h1 h2 h3 h4 hP hD hS hl
    have hn12 := hAr.1
    obtain ⟨-, -, -, -, -, g1, g2, g3⟩ := hAr.2 a ha
    have g1 : 0 ≤ (ml a).toInt := g1
    have g2 : (ml a).toInt ≤ (mi a).toInt := g2
    have g3 : (mi a).toInt ≤ 20 := g3
    refine lv_iload_n hx hb dX1_most_18 rfl (lv_at hl 0 rfl) ?_
    refine lv_aload_n hx hb dX1_most_19 rfl (lv_at hl 1 rfl) ?_
    refine va_get (D := D) (ci := 1) (v := .ref (h 3)) (C := RX1) (T := TX1) (N := 5) hx hb hts in_X1 hown hK hP 0 rfl rfl 2 (by decide) (hts _ q158) (fun _ h9 => h9) rfl dX1_most_20 ?_
    refine lv_iload_n hx hb dX1_most_23 rfl (lv_at hl 2 rfl) ?_
    refine va_iald hx hb hK hP 3 0 rfl rfl (vp_in_nI (show a < 13 by omega) (by decide)) dX1_most_24 ?_
    refine lv_topi (fun y9 ey9 => ?_)
    obtain rfl : y9 = ml a := ey9.trans (congrArg ml (nI_clamp (show a < 2 ^ 31 by omega)))
    refine lv_icmp_lt (tgt := 45) hx hb dX1_most_25 (by decide) (fun c1 => ?_) (fun c1 => ?_)
    · rw [Int32.lt_iff_toInt_lt] at c1
      exact K2 x H locs ls (fun z hz1 hz2 => h4 z (by omega) (by omega)) hP hD hS hl
    · rw [Int32.lt_iff_toInt_lt] at c1
      refine lv_aload_n hx hb dX1_most_28 rfl (lv_at hl 1 rfl) ?_
      refine lv_iload_n hx hb dX1_most_29 rfl (lv_at hl 2 rfl) ?_
      refine lv_iload_n hx hb dX1_most_30 rfl (lv_at hl 0 rfl) ?_
      refine cr_selfi (As := [.int (nI a), .int x]) (rest := []) ⟨hx, hb, hml, hown, hts⟩ (metX1_allows l D d h H.size n mt mh ml mi hAr a x ha (by omega) (by omega)) (cwV 2 hts (lw_V q224 q226 qs14 q17 q227) rfl rfl rfl (by decide +kernel) ⟨Nat.le_of_ble_eq_true rfl, Nat.le_of_ble_eq_true rfl⟩) hK hP hD hS hA (ci := 1) rfl rfl rfl hl.1 rfl (Nat.le_of_ble_eq_true rfl) dX1_most_31 ⟨Nat.le_refl _, Nat.le_refl _⟩ (fun r u H locs hw hP hD hS => ?_)
      have hP : va_P D vwCl (mw d h (nI n) mt mh ml mi) H := hP
      have hD : va_D A (mw d h (nI n) mt mh ml mi) := hD
      refine lv_if_eq (tgt := 39) hx hb dX1_most_34 (by decide) (fun c2 => ?_) (fun c2 => ?_)
      · have hno : ¬ cr_alw (cr_n mt) (cr_n mh) (cr_up (cr_i ml) a x.toInt) (cr_up (cr_i mi) a x.toInt) n := by
          rcases hw with ⟨e, -⟩ | ⟨-, e⟩
          · rw [e] at c2; exact absurd c2 cr_1ne
          · exact e
        obtain ⟨x1, ex1⟩ : ∃ y : Int32, y = x + Int32.ofInt (-1) := ⟨_, rfl⟩
        refine lv_iinc (v := x1) (lv' := [(2, .int x1), (0, .ref (h 0)), (1, .int (nI a))]) hx hb dX1_most_39 hl (k := 0) rfl ex1.symm (by decide) rfl (fun ls hl => ?_)
        have hx1 : x1.toInt = x.toInt - 1 := by rw [ex1, fb_addI (by rw [show (Int32.ofInt (-1)).toInt = -1 from by decide]; omega) (by rw [show (Int32.ofInt (-1)).toInt = -1 from by decide]; omega), show (Int32.ofInt (-1)).toInt = -1 from by decide]; omega
        refine lv_goto (tgt := 18) hx hb dX1_most_42 (by decide) ?_
        refine ih x1 H locs ls (by omega) (by omega) (by omega) (fun z hz1 hz2 => ?_) hP hD hS (lv_sub hl [0, 1, 2] rfl)
        by_cases e : z = x.toInt
        · rw [e]; exact hno
        · exact h4 z (by omega) (by omega)
      · have hyes : cr_alw (cr_n mt) (cr_n mh) (cr_up (cr_i ml) a x.toInt) (cr_up (cr_i mi) a x.toInt) n := by
          rcases hw with ⟨-, e⟩ | ⟨e, -⟩
          · exact e
          · exact absurd e c2
        exact K1 x H locs ls (by omega) (by omega) hyes h4 hP hD hS (lv_sub hl [0, 1, 2] rfl)
set_option maxHeartbeats 4000000 in
set_option maxRecDepth 100000 in
/-- most(arc) -/
theorem metX1_most (l : Launch) (D : va_G) (d : ClassId) (h : Nat → Nat) (sz : Nat) (n : Nat) (mt mh ml mi : Nat → Int32) (hAr : cr_Arcs n mt mh ml mi) (a : Int32) : cr_Mi l D d (mw d h (nI n) mt mh ml mi) sz yX1_most cX1_most 3 (some .int) 3 75 [.ref (h 0), .int a] (S := Unit) (fun r _ => (¬ cr_ia n a ∧ r = -4) ∨ ∃ k, k < n ∧ a = nI k ∧ cr_PM (cr_n mt) (cr_n mh) (cr_i ml) (cr_i mi) n k r) (fun _ => mw d h (nI n) mt mh ml mi) := by
  refine cr_begin (Qc := fun A => va_Qi _ (cr_Bh D d A _) A) (by decide) (Nat.le_of_ble_eq_true rfl) ?_
  intro p env s m below meth c A ls hx hb hr hml hts hown hlocks hA hP hK hD hS hl
  have hown : s.vm.findClass RX1 = some m.cls := hown
  have hl : lv_has ls 3 [(0, .ref (h 0)), (1, .int a)] := hl
  refine lv_aload_n hx hb dX1_most_0 rfl (lv_at hl 0 rfl) ?_
  refine lv_iload_n hx hb dX1_most_1 rfl (lv_at hl 1 rfl) ?_
  refine cr_selfi (As := [.int a]) (rest := []) ⟨hx, hb, hml, hown, hts⟩ (metX1_isArc l D d h s.heap.size n mt mh ml mi a (by have := hAr.1; omega)) (cwV 1 hts (lw_V q188 q190 qs11 q17 q191) rfl rfl rfl (by decide +kernel) ⟨Nat.le_of_ble_eq_true rfl, Nat.le_of_ble_eq_true rfl⟩) hK hP hD hS hA (ci := 1) rfl rfl rfl hl.1 rfl (Nat.le_of_ble_eq_true rfl) dX1_most_2 ⟨Nat.le_refl _, Nat.le_refl _⟩ (fun r u H locs hw hP hD hS => ?_)
  have hP : va_P D vwCl (mw d h (nI n) mt mh ml mi) H := hP
  have hD : va_D A (mw d h (nI n) mt mh ml mi) := hD
  refine lv_if_ne (tgt := 11) hx hb dX1_most_5 (by decide) (fun c1 => ?_) (fun c1 => ?_)
  · have q : cr_ia n a := by
      unfold cr_ia
      by_cases z : 0 ≤ a.toInt ∧ a.toInt < n
      · exact z
      · rw [if_neg z] at hw; exact absurd hw c1
    have hn12 := hAr.1
    obtain ⟨k, hk, rfl⟩ := cr_ofI q (by omega)
    obtain ⟨-, -, -, -, -, g1, g2, g3⟩ := hAr.2 k hk
    have g1 : 0 ≤ (ml k).toInt := g1
    have g2 : (ml k).toInt ≤ (mi k).toInt := g2
    have g3 : (mi k).toInt ≤ 20 := g3
    refine lv_aload_n hx hb dX1_most_11 rfl (lv_at hl 0 rfl) ?_
    refine va_get (D := D) (ci := 1) (v := .ref (h 4)) (C := RX1) (T := TX1) (N := 5) hx hb hts in_X1 hown hK hP 0 rfl rfl 3 (by decide) (hts _ q159) (fun _ h9 => h9) rfl dX1_most_12 ?_
    refine lv_iload_n hx hb dX1_most_15 rfl (lv_at hl 1 rfl) ?_
    refine va_iald hx hb hK hP 4 0 rfl rfl (vp_in_nI (show k < 13 by omega) (by decide)) dX1_most_16 ?_
    refine lv_topi (fun y9 ey9 => ?_)
    obtain rfl : y9 = mi k := ey9.trans (congrArg mi (nI_clamp (show k < 2 ^ 31 by omega)))
    refine lv_istore_n (lv' := [(2, .int (mi k)), (0, .ref (h 0)), (1, .int (nI k))]) hx hb dX1_most_17 rfl hl (by decide) rfl (fun ls hl => ?_)
    refine lpX1_most_18 hx hb hml hown hts hA hK n mt mh ml mi hAr k hk (fun x H locs ls a1 a2 a3 a4 hP hD hS hl => ?_) (fun x H locs ls a1 hP hD hS hl => ?_) 30 (mi k) H locs ls (by omega) (by omega) (by omega) (fun z hz1 hz2 => by omega) hP hD hS (lv_sub hl [0, 1, 2] rfl)
    · refine lv_iload_n hx hb dX1_most_37 rfl (lv_at hl 0 rfl) ?_
      exact cr_iret () hx hb hr hlocks hK hP hD hS dX1_most_38 (Or.inr ⟨k, hk, rfl, Or.inr ⟨a1, a2, a3, a4⟩⟩)
    · refine lv_bipush (v := (-5)) hx hb dX1_most_45 (by decide) ?_
      exact cr_iret () hx hb hr hlocks hK hP hD hS dX1_most_47 (Or.inr ⟨k, hk, rfl, Or.inl ⟨rfl, a1⟩⟩)
  · have q : ¬ cr_ia n a := by
      unfold cr_ia
      intro z
      rw [if_pos z] at hw
      rw [hw] at c1
      exact absurd c1 (by decide)
    refine lv_bipush (v := (-4)) hx hb dX1_most_8 (by decide) ?_
    exact cr_iret () hx hb hr hlocks hK hP hD hS dX1_most_10 (Or.inl ⟨q, rfl⟩)
set_option maxHeartbeats 4000000 in
set_option maxRecDepth 100000 in
/-- amount by amount -/
theorem lpX1_through_27 {p : Program} {l : Launch} {env : Env} {s : State} {m : MethodId} {args : Array Value} {below : List Frame} {meth : Method} {c : Code} {Q : State → Prop} {D : va_G} {d : ClassId} {h : Nat → Nat} {A : Nat → Prop} (hx : p.tables.exec = Jvm.exec) (hb : c.code = cX1_through) (hml : c.maxLocals = 4) (hown : s.vm.findClass RX1 = some m.cls) (hts : ∀ w ∈ lw_all, w.before args s = true) (hA : ∀ q, s.heap.size ≤ q → A q) (hK : va_K D vwCl [(d, .int)] s) (n : Nat) (mt mh ml mi : Nat → Int32) (hAr : cr_Arcs n mt mh ml mi) (v w : Nat) (hv6 : v < 6) (hw6 : w < 6)
    (K1 : ∀ (x : Int32) (mt1 mh1 ml1 mi1 : Nat → Int32) (H : Heap) (locs : List Loc) (ls : Array Slot), (cr_Ag n mt mh ml mi mt1 mh1 ml1 mi1) → (0 ≤ x.toInt) → (x.toInt ≤ 240) → (cr_alT (cr_n mt) (cr_n mh) (cr_i ml) (cr_i mi) n v w x.toInt) → (∀ z, x.toInt < z → z ≤ 240 → ¬ cr_alT (cr_n mt) (cr_n mh) (cr_i ml) (cr_i mi) n v w z) → va_P D vwCl (mw d h (nI n) mt1 mh1 ml1 mi1) H → va_D A (mw d h (nI n) mt1 mh1 ml1 mi1) → va_S A s.heap H locs → lv_has ls 4 [(3, .int x), (0, .ref (h 0)), (1, .int (nI v)), (2, .int (nI w))] → W p l env ({ frames := 2, cells := 0, slots := 0, locals := 50 } : Room) s m args below meth c H locs 0 0 Q (F0 m 52 ls []))
    (K2 : ∀ (x : Int32) (mt1 mh1 ml1 mi1 : Nat → Int32) (H : Heap) (locs : List Loc) (ls : Array Slot), (cr_Ag n mt mh ml mi mt1 mh1 ml1 mi1) → (∀ z, 0 ≤ z → z ≤ 240 → ¬ cr_alT (cr_n mt) (cr_n mh) (cr_i ml) (cr_i mi) n v w z) → va_P D vwCl (mw d h (nI n) mt1 mh1 ml1 mi1) H → va_D A (mw d h (nI n) mt1 mh1 ml1 mi1) → va_S A s.heap H locs → lv_has ls 4 [(3, .int x), (0, .ref (h 0)), (1, .int (nI v)), (2, .int (nI w))] → W p l env ({ frames := 2, cells := 0, slots := 0, locals := 50 } : Room) s m args below meth c H locs 0 0 Q (F0 m 60 ls []))
    : ∀ (n1 : Nat) (x : Int32) (mt1 mh1 ml1 mi1 : Nat → Int32) (H : Heap) (locs : List Loc) (ls : Array Slot), (-1 ≤ x.toInt) → (x.toInt ≤ 240) → (x.toInt + 2 ≤ (n1 : Int)) → (cr_Ag n mt mh ml mi mt1 mh1 ml1 mi1) → (∀ z, x.toInt < z → z ≤ 240 → ¬ cr_alT (cr_n mt) (cr_n mh) (cr_i ml) (cr_i mi) n v w z) → va_P D vwCl (mw d h (nI n) mt1 mh1 ml1 mi1) H → va_D A (mw d h (nI n) mt1 mh1 ml1 mi1) → va_S A s.heap H locs → lv_has ls 4 [(3, .int x), (0, .ref (h 0)), (1, .int (nI v)), (2, .int (nI w))] → W p l env ({ frames := 2, cells := 0, slots := 0, locals := 50 } : Room) s m args below meth c H locs 0 0 Q (F0 m 27 ls []) := by
  intro n1
  induction n1 with
  | zero =>
    intro x mt1 mh1 ml1 mi1 H locs ls h1 h2 h3 h4 h5
    exfalso
    omega
  | succ n1 ih =>
    intro x mt1 mh1 ml1 mi1 H locs ls h1 h2 h3 h4 h5 hP hD hS hl
    have hn12 := hAr.1
    refine lv_iload_n hx hb dX1_through_27 rfl (lv_at hl 0 rfl) ?_
    refine lv_if_lt (tgt := 60) hx hb dX1_through_28 (by decide) (fun c1 => ?_) (fun c1 => ?_)
    · rw [cr_lt0] at c1
      exact K2 x mt1 mh1 ml1 mi1 H locs ls h4 (fun z hz1 hz2 => h5 z (by omega) hz2) hP hD hS hl
    · rw [cr_lt0] at c1
      refine lv_aload_n hx hb dX1_through_31 rfl (lv_at hl 1 rfl) ?_
      refine lv_iload_n hx hb dX1_through_32 rfl (lv_at hl 3 rfl) ?_
      refine lv_iload_n hx hb dX1_through_33 rfl (lv_at hl 2 rfl) ?_
      refine lv_iload_n hx hb dX1_through_34 rfl (lv_at hl 0 rfl) ?_
      refine lv_iload_n hx hb dX1_through_35 rfl (lv_at hl 0 rfl) ?_
      refine cr_selfv (As := [.int (nI w), .int (nI v), .int x, .int x]) (rest := []) ⟨hx, hb, hml, hown, hts⟩ (metX1_place l D d h H.size n mt1 mh1 ml1 mi1 (nI w) (nI v) x x (by omega)) (cwV 4 hts (lw_V q180 q182 qs10 q17 q183) rfl rfl rfl (by decide +kernel) ⟨Nat.le_of_ble_eq_true rfl, Nat.le_of_ble_eq_true rfl⟩) hK hP hD hS hA (ci := 1) rfl rfl rfl hl.1 rfl (Nat.le_of_ble_eq_true rfl) dX1_through_36 ⟨Nat.le_refl _, Nat.le_refl _⟩ (fun u H locs hw hP hD hS => ?_)
      have hP : va_P D vwCl (mw d h (nI n) (upd mt1 n (nI w)) (upd mh1 n (nI v)) (upd ml1 n x) (upd mi1 n x)) H := hP
      have hD : va_D A (mw d h (nI n) (upd mt1 n (nI w)) (upd mh1 n (nI v)) (upd ml1 n x) (upd mi1 n x)) := hD
      refine lv_aload_n hx hb dX1_through_39 rfl (lv_at hl 1 rfl) ?_
      refine lv_aload_n hx hb dX1_through_40 rfl (lv_at hl 1 rfl) ?_
      refine va_get (D := D) (ci := 1) (v := .int (nI n)) (C := RX1) (T := TX1) (N := 5) hx hb hts in_X1 hown hK hP 0 rfl rfl 4 (by decide) (hts _ q160) (fun _ h9 => h9) rfl dX1_through_41 ?_
      refine lv_iconst (v := (nI 1)) hx hb dX1_through_44 (by decide) ?_
      refine lv_iadd hx hb dX1_through_45 ?_
      refine lv_topi (fun y9 ey9 => ?_)
      obtain rfl : y9 = nI (n + 1) := ey9.trans (nI_1 n)
      refine cr_selfi (As := [.int (nI (n + 1))]) (rest := []) ⟨hx, hb, hml, hown, hts⟩ (metX1_worst l D d h H.size n (upd mt1 n (nI w)) (upd mh1 n (nI v)) (upd ml1 n x) (upd mi1 n x) (n + 1) (by omega) (cr_MOK_ext (cr_Ag_ok h4 (cr_Arcs_MOK hAr)) hv6 hw6 (by omega) h2)) (cwV 1 hts (lw_V q204 q206 qs12 q17 q207) rfl rfl rfl (by decide +kernel) ⟨Nat.le_of_ble_eq_true rfl, Nat.le_of_ble_eq_true rfl⟩) hK hP hD hS hA (ci := 1) rfl rfl rfl hl.1 rfl (Nat.le_of_ble_eq_true rfl) dX1_through_46 ⟨Nat.le_refl _, Nat.le_refl _⟩ (fun r u H locs hw hP hD hS => ?_)
      have hP : va_P D vwCl (mw d h (nI n) (upd mt1 n (nI w)) (upd mh1 n (nI v)) (upd ml1 n x) (upd mi1 n x)) H := hP
      have hD : va_D A (mw d h (nI n) (upd mt1 n (nI w)) (upd mh1 n (nI v)) (upd ml1 n x) (upd mi1 n x)) := hD
      have hag := cr_Ag_put (x := nI w) (y := nI v) (z := x) (w := x) h4
      refine lv_if_ne (tgt := 54) hx hb dX1_through_49 (by decide) (fun c2 => ?_) (fun c2 => ?_)
      · have hno : ¬ cr_alT (cr_n mt) (cr_n mh) (cr_i ml) (cr_i mi) n v w x.toInt := fun z => cr_wst_no hw (cr_i_0n c2) ((cr_Ag_alT h4 hv6 hw6).mpr z)
        obtain ⟨x1, ex1⟩ : ∃ y : Int32, y = x + Int32.ofInt (-1) := ⟨_, rfl⟩
        refine lv_iinc (v := x1) (lv' := [(3, .int x1), (0, .ref (h 0)), (1, .int (nI v)), (2, .int (nI w))]) hx hb dX1_through_54 hl (k := 0) rfl ex1.symm (by decide) rfl (fun ls hl => ?_)
        have hx1 : x1.toInt = x.toInt - 1 := by rw [ex1, fb_addI (by rw [show (Int32.ofInt (-1)).toInt = -1 from by decide]; omega) (by rw [show (Int32.ofInt (-1)).toInt = -1 from by decide]; omega), show (Int32.ofInt (-1)).toInt = -1 from by decide]; omega
        refine lv_goto (tgt := 27) hx hb dX1_through_57 (by decide) ?_
        refine ih x1 _ _ _ _ H locs ls (by omega) (by omega) (by omega) hag (fun z hz1 hz2 => ?_) hP hD hS (lv_sub hl [0, 1, 2, 3] rfl)
        by_cases e : z = x.toInt
        · rw [e]; exact hno
        · exact h5 z (by omega) (by omega)
      · have hyes : cr_alT (cr_n mt) (cr_n mh) (cr_i ml) (cr_i mi) n v w x.toInt := (cr_Ag_alT h4 hv6 hw6).mp (cr_wst_yes hw (cr_i_0.mp c2))
        exact K1 x _ _ _ _ H locs ls hag (by omega) h2 hyes h5 hP hD hS (lv_sub hl [0, 1, 2, 3] rfl)
set_option maxHeartbeats 4000000 in
set_option maxRecDepth 100000 in
/-- through(s, t) -/
theorem metX1_through (l : Launch) (D : va_G) (d : ClassId) (h : Nat → Nat) (sz : Nat) (n : Nat) (mt mh ml mi : Nat → Int32) (hAr : cr_Arcs n mt mh ml mi) (s9 t9 : Int32) : cr_Mi l D d (mw d h (nI n) mt mh ml mi) sz yX1_through cX1_through 4 (some .int) 2 50 [.ref (h 0), .int s9, .int t9] (S := (Nat → Int32) × (Nat → Int32) × (Nat → Int32) × (Nat → Int32)) (fun r u => cr_Ag n mt mh ml mi u.1 u.2.1 u.2.2.1 u.2.2.2 ∧ ((¬ cr_gv s9 t9 ∧ r = -1) ∨ (cr_gv s9 t9 ∧ ∃ s t, s < 6 ∧ t < 6 ∧ s9 = nI s ∧ t9 = nI t ∧ cr_PT (cr_n mt) (cr_n mh) (cr_i ml) (cr_i mi) n s t r))) (fun u => mw d h (nI n) u.1 u.2.1 u.2.2.1 u.2.2.2) := by
  refine cr_begin (Qc := fun A => va_Qi _ (cr_Bh D d A _) A) (by decide) (Nat.le_of_ble_eq_true rfl) ?_
  intro p env s m below meth c A ls hx hb hr hml hts hown hlocks hA hP hK hD hS hl
  have hown : s.vm.findClass RX1 = some m.cls := hown
  have hl : lv_has ls 4 [(0, .ref (h 0)), (1, .int s9), (2, .int t9)] := hl
  have hn12 := hAr.1
  refine lv_aload_n hx hb dX1_through_0 rfl (lv_at hl 0 rfl) ?_
  refine lv_iload_n hx hb dX1_through_1 rfl (lv_at hl 1 rfl) ?_
  refine cr_selfi (As := [.int s9]) (rest := []) ⟨hx, hb, hml, hown, hts⟩ (metX1_isVertex l D d h s.heap.size n mt mh ml mi s9) (cwV 1 hts (lw_V q176 q178 qs9 q17 q179) rfl rfl rfl (by decide +kernel) ⟨Nat.le_of_ble_eq_true rfl, Nat.le_of_ble_eq_true rfl⟩) hK hP hD hS hA (ci := 1) rfl rfl rfl hl.1 rfl (Nat.le_of_ble_eq_true rfl) dX1_through_2 ⟨Nat.le_refl _, Nat.le_refl _⟩ (fun r1 u H locs hw hP hD hS => ?_)
  have hP : va_P D vwCl (mw d h (nI n) mt mh ml mi) H := hP
  have hD : va_D A (mw d h (nI n) mt mh ml mi) := hD
  refine lv_if_eq (tgt := 21) hx hb dX1_through_5 (by decide) (fun cp1 => ?_) (fun cp1 => ?_)
  · have p1 : ¬ (0 ≤ s9.toInt ∧ s9.toInt < 6) := by
      intro z
      rw [if_pos z] at hw
      rw [hw] at cp1
      exact absurd cp1 (by decide)
    refine lv_iconst (v := (-1)) hx hb dX1_through_21 (by decide) ?_
    exact cr_iret (mt, mh, ml, mi) hx hb hr hlocks hK hP hD hS dX1_through_22 (⟨(fun _ _ => ⟨rfl, rfl, rfl, rfl⟩), Or.inl ⟨fun z => p1 z.1, rfl⟩⟩)
  · have p1 : 0 ≤ s9.toInt ∧ s9.toInt < 6 := by
      by_cases z : 0 ≤ s9.toInt ∧ s9.toInt < 6
      · exact z
      · rw [if_neg z] at hw; exact absurd hw cp1
    refine lv_aload_n hx hb dX1_through_8 rfl (lv_at hl 0 rfl) ?_
    refine lv_iload_n hx hb dX1_through_9 rfl (lv_at hl 2 rfl) ?_
    refine cr_selfi (As := [.int t9]) (rest := []) ⟨hx, hb, hml, hown, hts⟩ (metX1_isVertex l D d h H.size n mt mh ml mi t9) (cwV 1 hts (lw_V q176 q178 qs9 q17 q179) rfl rfl rfl (by decide +kernel) ⟨Nat.le_of_ble_eq_true rfl, Nat.le_of_ble_eq_true rfl⟩) hK hP hD hS hA (ci := 1) rfl rfl rfl hl.1 rfl (Nat.le_of_ble_eq_true rfl) dX1_through_10 ⟨Nat.le_refl _, Nat.le_refl _⟩ (fun r2 u H locs hw hP hD hS => ?_)
    have hP : va_P D vwCl (mw d h (nI n) mt mh ml mi) H := hP
    have hD : va_D A (mw d h (nI n) mt mh ml mi) := hD
    refine lv_if_eq (tgt := 21) hx hb dX1_through_13 (by decide) (fun cp2 => ?_) (fun cp2 => ?_)
    · have p2 : ¬ (0 ≤ t9.toInt ∧ t9.toInt < 6) := by
        intro z
        rw [if_pos z] at hw
        rw [hw] at cp2
        exact absurd cp2 (by decide)
      refine lv_iconst (v := (-1)) hx hb dX1_through_21 (by decide) ?_
      exact cr_iret (mt, mh, ml, mi) hx hb hr hlocks hK hP hD hS dX1_through_22 (⟨(fun _ _ => ⟨rfl, rfl, rfl, rfl⟩), Or.inl ⟨fun z => p2 z.2.1, rfl⟩⟩)
    · have p2 : 0 ≤ t9.toInt ∧ t9.toInt < 6 := by
        by_cases z : 0 ≤ t9.toInt ∧ t9.toInt < 6
        · exact z
        · rw [if_neg z] at hw; exact absurd hw cp2
      refine lv_iload_n hx hb dX1_through_16 rfl (lv_at hl 1 rfl) ?_
      refine lv_iload_n hx hb dX1_through_17 rfl (lv_at hl 2 rfl) ?_
      refine lv_icmp_ne (tgt := 23) hx hb dX1_through_18 (by decide) (fun c3 => ?_) (fun c3 => ?_)
      · have hv : cr_gv s9 t9 := ⟨p1, p2, c3⟩
        obtain ⟨v, hv6, rfl⟩ := cr_ofI (n := 6) p1 (by decide)
        obtain ⟨w, hw6, rfl⟩ := cr_ofI (n := 6) p2 (by decide)
        refine lv_sipush (v := (nI 240)) hx hb dX1_through_23 (by decide) ?_
        refine lv_istore_n (lv' := [(3, .int (nI 240)), (0, .ref (h 0)), (1, .int (nI v)), (2, .int (nI w))]) hx hb dX1_through_26 rfl hl (by decide) rfl (fun ls hl => ?_)
        refine lpX1_through_27 hx hb hml hown hts hA hK n mt mh ml mi hAr v w hv6 hw6 (fun x mt1 mh1 ml1 mi1 H locs ls a0 a1 a2 a3 a4 hP hD hS hl => ?_) (fun x mt1 mh1 ml1 mi1 H locs ls a0 a1 hP hD hS hl => ?_) 242 (nI 240) mt mh ml mi H locs ls (by decide) (by decide) (by decide) (fun _ _ => ⟨rfl, rfl, rfl, rfl⟩) (fun z hz1 hz2 => by rw [show (nI 240).toInt = 240 from rfl] at hz1; omega) hP hD hS (lv_sub hl [0, 1, 2, 3] rfl)
        · refine lv_iload_n hx hb dX1_through_52 rfl (lv_at hl 0 rfl) ?_
          exact cr_iret (mt1, mh1, ml1, mi1) hx hb hr hlocks hK hP hD hS dX1_through_53 (⟨a0, Or.inr ⟨hv, v, w, hv6, hw6, rfl, rfl, Or.inr ⟨a1, a2, a3, a4⟩⟩⟩)
        · refine lv_bipush (v := (-5)) hx hb dX1_through_60 (by decide) ?_
          exact cr_iret (mt1, mh1, ml1, mi1) hx hb hr hlocks hK hP hD hS dX1_through_62 (⟨a0, Or.inr ⟨hv, v, w, hv6, hw6, rfl, rfl, Or.inl ⟨rfl, a1⟩⟩⟩)
      · refine lv_iconst (v := (-1)) hx hb dX1_through_21 (by decide) ?_
        exact cr_iret (mt, mh, ml, mi) hx hb hr hlocks hK hP hD hS dX1_through_22 (⟨(fun _ _ => ⟨rfl, rfl, rfl, rfl⟩), Or.inl ⟨fun z => z.2.2 c3, rfl⟩⟩)
end
section
/-! the two constructors -/
theorem cr_same {D : va_G} {tys : List (ClassId × FieldType)} {s : State} {c1 c2 : ClassId} (hK : va_K D vwCl tys s) (i j : Nat) (h1 : tys[i]? = some (c1, .int)) (h2 : tys[j]? = some (c2, .int)) : c1 = c2 := by
  have a : s.vm.findClass _ = some c1 := (hK.2 i _ h1).2
  have b : s.vm.findClass _ = some c2 := (hK.2 j _ h2).2
  exact Option.some.inj (a.symm.trans b)
set_option maxHeartbeats 400000 in
set_option maxRecDepth 100000 in
/-- the constructor: all arrays are made, all zero -/
theorem metX0_init (l : Launch) (D : va_G) (h0 : Nat) (sz : Nat) : Met l yX0_init (ws_ yX0_init cX0_init 1 none) ({ frames := 1, cells := 10, slots := 164, locals := 12 } : Room) (va_Pc [.ref h0] (fun U => U.heap.size = sz ∧ va_P D vwCl [(h0, .inr (0, [.int 0, .null, .null, .null, .null, .null, .null, .null, .null, .int 0, .int 0, .null, .null]))] U.heap ∧ va_K D vwCl [] U ∧ va_D (fun _ => True) [(h0, .inr (0, [.int 0, .null, .null, .null, .null, .null, .null, .null, .null, .int 0, .int 0, .null, .null]))])) (va_Qv (S := (Nat → Nat) × ClassId) (fun u => u.1 0 = h0) (fun u t => va_P D vwCl (xw u.2 u.1 (nI 0) (nI 0) (nI 0) (fun _ => 0) (fun _ => 0) (fun _ => 0) (fun _ => 0) (fun _ => 0) (fun _ => 0) (fun _ => 0) (fun _ => 0) (fun _ => 0) (fun _ => 0)) t.heap ∧ va_K D vwCl [(u.2, .int)] t ∧ va_D (va_A [(h0, .inr (0, [.int 0, .null, .null, .null, .null, .null, .null, .null, .null, .int 0, .int 0, .null, .null]))] sz) (xw u.2 u.1 (nI 0) (nI 0) (nI 0) (fun _ => 0) (fun _ => 0) (fun _ => 0) (fun _ => 0) (fun _ => 0) (fun _ => 0) (fun _ => 0) (fun _ => 0) (fun _ => 0) (fun _ => 0))) (va_A [(h0, .inr (0, [.int 0, .null, .null, .null, .null, .null, .null, .null, .null, .int 0, .int 0, .null, .null]))] sz)) 10 164 (va_A [(h0, .inr (0, [.int 0, .null, .null, .null, .null, .null, .null, .null, .null, .int 0, .int 0, .null, .null]))] sz) := by
  refine Met.ofW (cc := cX0_init) (maxL := 1) (ret := none) (by decide) rfl ?_
  intro p env s m args below meth c s₁ B hml hv
  obtain ⟨rfl, hsz, hP, hK, hD0⟩ := hv
  have hx := B.exec
  have hb := B.bytes
  have hr := B.returns
  have hts := atoms_spec (ws := ws_ yX0_init cX0_init 1 none) B.pre
  have hts : ∀ w ∈ lw_all, w.before _ s = true := fun w h => hts w (List.mem_cons_of_mem _ h)
  have hown : s.vm.findClass RX0 = some m.cls := findClass_of_methodNamed B.named
  have hlocks := B.notSynchronized
  have hin : meth.name = "<init>" := (name_of_methodNamed B.named B.method).1
  subst hsz
  have hD := hD0.self (sz := s.heap.size)
  generalize hAe : va_A [(h0, .inr (0, [.int 0, .null, .null, .null, .null, .null, .null, .null, .null, .int 0, .int 0, .null, .null]))] s.heap.size = A at hD ⊢
  have hA : ∀ q : Nat, s.heap.size ≤ q → A q := fun q h => by rw [← hAe]; exact Or.inr h
  have hS : va_S A s.heap s.heap [] := va_S.rf
  have hl := lv_entry ([.ref h0]) (n := 1) (Nat.le_of_ble_eq_true rfl)
  rw [lg_entry_eq]
  generalize (lg_sl ([.ref h0]) ++ List.replicate (1 - (lg_sl ([.ref h0])).length) Slot.unset).toArray = ls at hl ⊢
  have hl : lv_has ls 1 [(0, .ref h0)] := hl
  refine lv_aload_n hx hb dX0_init_0 rfl (lv_at hl 0 rfl) ?_
  refine W.objInit hx hb hown (hts _ q23) (hts _ q24) (hts _ q25) rfl (by rw [hml]; exact hl.1) rfl dX0_init_1 (Nat.le_of_ble_eq_true rfl) (Nat.le_of_ble_eq_true rfl) ?_
  refine W.eq (g2 := F0 m 4 ls []) rfl ?_
  refine lv_aload_n hx hb dX0_init_4 rfl (lv_at hl 0 rfl) ?_
  refine lv_bipush (v := nI 12) hx hb dX0_init_5 (by decide) ?_
  refine va_newa (atype := .int) (a0 := (12, .inl (fun _ => 0))) hx hb (hts _ q66) rfl hK hP hD hS hA (fun _ => rfl) (by decide) (N' := 12) (by decide) (by decide) (Nat.le_of_ble_eq_true rfl) (Nat.le_of_ble_eq_true rfl) dX0_init_7 (fun q1 cA H hK hP hD hS => ?_)
  obtain ⟨d, rfl⟩ : ∃ z, z = cA := ⟨_, rfl⟩
  have hK := hK.sub (tys' := [(d, .int)]) [0] rfl
  have hP : va_P D vwCl [(h0, .inr (0, [.int 0, .null, .null, .null, .null, .null, .null, .null, .null, .int 0, .int 0, .null, .null])), (q1, .inl (d, 12, .inl (fun _ => 0)))] H := hP
  have hD : va_D A [(h0, .inr (0, [.int 0, .null, .null, .null, .null, .null, .null, .null, .null, .int 0, .int 0, .null, .null])), (q1, .inl (d, 12, .inl (fun _ => 0)))] := hD
  refine W.widen (k := 1) (n := 12) (Nat.le_of_ble_eq_true rfl) (Nat.le_of_ble_eq_true rfl) ?_
  refine va_putF (D := D) (ci := 0) (v := .ref q1) (ty := .array .int) (C := RX0) (T := TX0) (N := 13) hx hb hts in_X0 tyX0 tyX0_ok nmX0 hown hK hP hD hS 0 rfl rfl 1 (by decide) (hts _ q27) (fun _ h9 => h9) rfl hin rfl (by decide +kernel) rfl rfl (Nat.le_of_ble_eq_true rfl) dX0_init_9 (fun H locs hP hD hS => ?_)
  have hP : va_P D vwCl [(h0, .inr (0, [.int 0, .ref q1, .null, .null, .null, .null, .null, .null, .null, .int 0, .int 0, .null, .null])), (q1, .inl (d, 12, .inl (fun _ => 0)))] H := hP
  have hD : va_D A [(h0, .inr (0, [.int 0, .ref q1, .null, .null, .null, .null, .null, .null, .null, .int 0, .int 0, .null, .null])), (q1, .inl (d, 12, .inl (fun _ => 0)))] := hD
  refine lv_aload_n hx hb dX0_init_12 rfl (lv_at hl 0 rfl) ?_
  refine lv_bipush (v := nI 12) hx hb dX0_init_13 (by decide) ?_
  refine va_newa (atype := .int) (a0 := (12, .inl (fun _ => 0))) hx hb (hts _ q66) rfl hK hP hD hS hA (fun _ => rfl) (by decide) (N' := 12) (by decide) (by decide) (Nat.le_of_ble_eq_true rfl) (Nat.le_of_ble_eq_true rfl) dX0_init_15 (fun q2 cA H hK hP hD hS => ?_)
  obtain rfl : d = cA := cr_same hK 0 1 rfl rfl
  have hK := hK.sub (tys' := [(d, .int)]) [0] rfl
  have hP : va_P D vwCl [(h0, .inr (0, [.int 0, .ref q1, .null, .null, .null, .null, .null, .null, .null, .int 0, .int 0, .null, .null])), (q1, .inl (d, 12, .inl (fun _ => 0))), (q2, .inl (d, 12, .inl (fun _ => 0)))] H := hP
  have hD : va_D A [(h0, .inr (0, [.int 0, .ref q1, .null, .null, .null, .null, .null, .null, .null, .int 0, .int 0, .null, .null])), (q1, .inl (d, 12, .inl (fun _ => 0))), (q2, .inl (d, 12, .inl (fun _ => 0)))] := hD
  refine W.widen (k := 2) (n := 24) (Nat.le_of_ble_eq_true rfl) (Nat.le_of_ble_eq_true rfl) ?_
  refine va_putF (D := D) (ci := 0) (v := .ref q2) (ty := .array .int) (C := RX0) (T := TX0) (N := 13) hx hb hts in_X0 tyX0 tyX0_ok nmX0 hown hK hP hD hS 0 rfl rfl 2 (by decide) (hts _ q28) (fun _ h9 => h9) rfl hin rfl (by decide +kernel) rfl rfl (Nat.le_of_ble_eq_true rfl) dX0_init_17 (fun H locs hP hD hS => ?_)
  have hP : va_P D vwCl [(h0, .inr (0, [.int 0, .ref q1, .ref q2, .null, .null, .null, .null, .null, .null, .int 0, .int 0, .null, .null])), (q1, .inl (d, 12, .inl (fun _ => 0))), (q2, .inl (d, 12, .inl (fun _ => 0)))] H := hP
  have hD : va_D A [(h0, .inr (0, [.int 0, .ref q1, .ref q2, .null, .null, .null, .null, .null, .null, .int 0, .int 0, .null, .null])), (q1, .inl (d, 12, .inl (fun _ => 0))), (q2, .inl (d, 12, .inl (fun _ => 0)))] := hD
  refine lv_aload_n hx hb dX0_init_20 rfl (lv_at hl 0 rfl) ?_
  refine lv_bipush (v := nI 12) hx hb dX0_init_21 (by decide) ?_
  refine va_newa (atype := .int) (a0 := (12, .inl (fun _ => 0))) hx hb (hts _ q66) rfl hK hP hD hS hA (fun _ => rfl) (by decide) (N' := 12) (by decide) (by decide) (Nat.le_of_ble_eq_true rfl) (Nat.le_of_ble_eq_true rfl) dX0_init_23 (fun q3 cA H hK hP hD hS => ?_)
  obtain rfl : d = cA := cr_same hK 0 1 rfl rfl
  have hK := hK.sub (tys' := [(d, .int)]) [0] rfl
  have hP : va_P D vwCl [(h0, .inr (0, [.int 0, .ref q1, .ref q2, .null, .null, .null, .null, .null, .null, .int 0, .int 0, .null, .null])), (q1, .inl (d, 12, .inl (fun _ => 0))), (q2, .inl (d, 12, .inl (fun _ => 0))), (q3, .inl (d, 12, .inl (fun _ => 0)))] H := hP
  have hD : va_D A [(h0, .inr (0, [.int 0, .ref q1, .ref q2, .null, .null, .null, .null, .null, .null, .int 0, .int 0, .null, .null])), (q1, .inl (d, 12, .inl (fun _ => 0))), (q2, .inl (d, 12, .inl (fun _ => 0))), (q3, .inl (d, 12, .inl (fun _ => 0)))] := hD
  refine W.widen (k := 3) (n := 36) (Nat.le_of_ble_eq_true rfl) (Nat.le_of_ble_eq_true rfl) ?_
  refine va_putF (D := D) (ci := 0) (v := .ref q3) (ty := .array .int) (C := RX0) (T := TX0) (N := 13) hx hb hts in_X0 tyX0 tyX0_ok nmX0 hown hK hP hD hS 0 rfl rfl 3 (by decide) (hts _ q29) (fun _ h9 => h9) rfl hin rfl (by decide +kernel) rfl rfl (Nat.le_of_ble_eq_true rfl) dX0_init_25 (fun H locs hP hD hS => ?_)
  have hP : va_P D vwCl [(h0, .inr (0, [.int 0, .ref q1, .ref q2, .ref q3, .null, .null, .null, .null, .null, .int 0, .int 0, .null, .null])), (q1, .inl (d, 12, .inl (fun _ => 0))), (q2, .inl (d, 12, .inl (fun _ => 0))), (q3, .inl (d, 12, .inl (fun _ => 0)))] H := hP
  have hD : va_D A [(h0, .inr (0, [.int 0, .ref q1, .ref q2, .ref q3, .null, .null, .null, .null, .null, .int 0, .int 0, .null, .null])), (q1, .inl (d, 12, .inl (fun _ => 0))), (q2, .inl (d, 12, .inl (fun _ => 0))), (q3, .inl (d, 12, .inl (fun _ => 0)))] := hD
  refine lv_aload_n hx hb dX0_init_28 rfl (lv_at hl 0 rfl) ?_
  refine lv_bipush (v := nI 12) hx hb dX0_init_29 (by decide) ?_
  refine va_newa (atype := .int) (a0 := (12, .inl (fun _ => 0))) hx hb (hts _ q66) rfl hK hP hD hS hA (fun _ => rfl) (by decide) (N' := 12) (by decide) (by decide) (Nat.le_of_ble_eq_true rfl) (Nat.le_of_ble_eq_true rfl) dX0_init_31 (fun q4 cA H hK hP hD hS => ?_)
  obtain rfl : d = cA := cr_same hK 0 1 rfl rfl
  have hK := hK.sub (tys' := [(d, .int)]) [0] rfl
  have hP : va_P D vwCl [(h0, .inr (0, [.int 0, .ref q1, .ref q2, .ref q3, .null, .null, .null, .null, .null, .int 0, .int 0, .null, .null])), (q1, .inl (d, 12, .inl (fun _ => 0))), (q2, .inl (d, 12, .inl (fun _ => 0))), (q3, .inl (d, 12, .inl (fun _ => 0))), (q4, .inl (d, 12, .inl (fun _ => 0)))] H := hP
  have hD : va_D A [(h0, .inr (0, [.int 0, .ref q1, .ref q2, .ref q3, .null, .null, .null, .null, .null, .int 0, .int 0, .null, .null])), (q1, .inl (d, 12, .inl (fun _ => 0))), (q2, .inl (d, 12, .inl (fun _ => 0))), (q3, .inl (d, 12, .inl (fun _ => 0))), (q4, .inl (d, 12, .inl (fun _ => 0)))] := hD
  refine W.widen (k := 4) (n := 48) (Nat.le_of_ble_eq_true rfl) (Nat.le_of_ble_eq_true rfl) ?_
  refine va_putF (D := D) (ci := 0) (v := .ref q4) (ty := .array .int) (C := RX0) (T := TX0) (N := 13) hx hb hts in_X0 tyX0 tyX0_ok nmX0 hown hK hP hD hS 0 rfl rfl 4 (by decide) (hts _ q30) (fun _ h9 => h9) rfl hin rfl (by decide +kernel) rfl rfl (Nat.le_of_ble_eq_true rfl) dX0_init_33 (fun H locs hP hD hS => ?_)
  have hP : va_P D vwCl [(h0, .inr (0, [.int 0, .ref q1, .ref q2, .ref q3, .ref q4, .null, .null, .null, .null, .int 0, .int 0, .null, .null])), (q1, .inl (d, 12, .inl (fun _ => 0))), (q2, .inl (d, 12, .inl (fun _ => 0))), (q3, .inl (d, 12, .inl (fun _ => 0))), (q4, .inl (d, 12, .inl (fun _ => 0)))] H := hP
  have hD : va_D A [(h0, .inr (0, [.int 0, .ref q1, .ref q2, .ref q3, .ref q4, .null, .null, .null, .null, .int 0, .int 0, .null, .null])), (q1, .inl (d, 12, .inl (fun _ => 0))), (q2, .inl (d, 12, .inl (fun _ => 0))), (q3, .inl (d, 12, .inl (fun _ => 0))), (q4, .inl (d, 12, .inl (fun _ => 0)))] := hD
  refine lv_aload_n hx hb dX0_init_36 rfl (lv_at hl 0 rfl) ?_
  refine lv_bipush (v := nI 25) hx hb dX0_init_37 (by decide) ?_
  refine va_newa (atype := .int) (a0 := (25, .inl (fun _ => 0))) hx hb (hts _ q66) rfl hK hP hD hS hA (fun _ => rfl) (by decide) (N' := 25) (by decide) (by decide) (Nat.le_of_ble_eq_true rfl) (Nat.le_of_ble_eq_true rfl) dX0_init_39 (fun q5 cA H hK hP hD hS => ?_)
  obtain rfl : d = cA := cr_same hK 0 1 rfl rfl
  have hK := hK.sub (tys' := [(d, .int)]) [0] rfl
  have hP : va_P D vwCl [(h0, .inr (0, [.int 0, .ref q1, .ref q2, .ref q3, .ref q4, .null, .null, .null, .null, .int 0, .int 0, .null, .null])), (q1, .inl (d, 12, .inl (fun _ => 0))), (q2, .inl (d, 12, .inl (fun _ => 0))), (q3, .inl (d, 12, .inl (fun _ => 0))), (q4, .inl (d, 12, .inl (fun _ => 0))), (q5, .inl (d, 25, .inl (fun _ => 0)))] H := hP
  have hD : va_D A [(h0, .inr (0, [.int 0, .ref q1, .ref q2, .ref q3, .ref q4, .null, .null, .null, .null, .int 0, .int 0, .null, .null])), (q1, .inl (d, 12, .inl (fun _ => 0))), (q2, .inl (d, 12, .inl (fun _ => 0))), (q3, .inl (d, 12, .inl (fun _ => 0))), (q4, .inl (d, 12, .inl (fun _ => 0))), (q5, .inl (d, 25, .inl (fun _ => 0)))] := hD
  refine W.widen (k := 5) (n := 73) (Nat.le_of_ble_eq_true rfl) (Nat.le_of_ble_eq_true rfl) ?_
  refine va_putF (D := D) (ci := 0) (v := .ref q5) (ty := .array .int) (C := RX0) (T := TX0) (N := 13) hx hb hts in_X0 tyX0 tyX0_ok nmX0 hown hK hP hD hS 0 rfl rfl 5 (by decide) (hts _ q31) (fun _ h9 => h9) rfl hin rfl (by decide +kernel) rfl rfl (Nat.le_of_ble_eq_true rfl) dX0_init_41 (fun H locs hP hD hS => ?_)
  have hP : va_P D vwCl [(h0, .inr (0, [.int 0, .ref q1, .ref q2, .ref q3, .ref q4, .ref q5, .null, .null, .null, .int 0, .int 0, .null, .null])), (q1, .inl (d, 12, .inl (fun _ => 0))), (q2, .inl (d, 12, .inl (fun _ => 0))), (q3, .inl (d, 12, .inl (fun _ => 0))), (q4, .inl (d, 12, .inl (fun _ => 0))), (q5, .inl (d, 25, .inl (fun _ => 0)))] H := hP
  have hD : va_D A [(h0, .inr (0, [.int 0, .ref q1, .ref q2, .ref q3, .ref q4, .ref q5, .null, .null, .null, .int 0, .int 0, .null, .null])), (q1, .inl (d, 12, .inl (fun _ => 0))), (q2, .inl (d, 12, .inl (fun _ => 0))), (q3, .inl (d, 12, .inl (fun _ => 0))), (q4, .inl (d, 12, .inl (fun _ => 0))), (q5, .inl (d, 25, .inl (fun _ => 0)))] := hD
  refine lv_aload_n hx hb dX0_init_44 rfl (lv_at hl 0 rfl) ?_
  refine lv_bipush (v := nI 25) hx hb dX0_init_45 (by decide) ?_
  refine va_newa (atype := .int) (a0 := (25, .inl (fun _ => 0))) hx hb (hts _ q66) rfl hK hP hD hS hA (fun _ => rfl) (by decide) (N' := 25) (by decide) (by decide) (Nat.le_of_ble_eq_true rfl) (Nat.le_of_ble_eq_true rfl) dX0_init_47 (fun q6 cA H hK hP hD hS => ?_)
  obtain rfl : d = cA := cr_same hK 0 1 rfl rfl
  have hK := hK.sub (tys' := [(d, .int)]) [0] rfl
  have hP : va_P D vwCl [(h0, .inr (0, [.int 0, .ref q1, .ref q2, .ref q3, .ref q4, .ref q5, .null, .null, .null, .int 0, .int 0, .null, .null])), (q1, .inl (d, 12, .inl (fun _ => 0))), (q2, .inl (d, 12, .inl (fun _ => 0))), (q3, .inl (d, 12, .inl (fun _ => 0))), (q4, .inl (d, 12, .inl (fun _ => 0))), (q5, .inl (d, 25, .inl (fun _ => 0))), (q6, .inl (d, 25, .inl (fun _ => 0)))] H := hP
  have hD : va_D A [(h0, .inr (0, [.int 0, .ref q1, .ref q2, .ref q3, .ref q4, .ref q5, .null, .null, .null, .int 0, .int 0, .null, .null])), (q1, .inl (d, 12, .inl (fun _ => 0))), (q2, .inl (d, 12, .inl (fun _ => 0))), (q3, .inl (d, 12, .inl (fun _ => 0))), (q4, .inl (d, 12, .inl (fun _ => 0))), (q5, .inl (d, 25, .inl (fun _ => 0))), (q6, .inl (d, 25, .inl (fun _ => 0)))] := hD
  refine W.widen (k := 6) (n := 98) (Nat.le_of_ble_eq_true rfl) (Nat.le_of_ble_eq_true rfl) ?_
  refine va_putF (D := D) (ci := 0) (v := .ref q6) (ty := .array .int) (C := RX0) (T := TX0) (N := 13) hx hb hts in_X0 tyX0 tyX0_ok nmX0 hown hK hP hD hS 0 rfl rfl 6 (by decide) (hts _ q32) (fun _ h9 => h9) rfl hin rfl (by decide +kernel) rfl rfl (Nat.le_of_ble_eq_true rfl) dX0_init_49 (fun H locs hP hD hS => ?_)
  have hP : va_P D vwCl [(h0, .inr (0, [.int 0, .ref q1, .ref q2, .ref q3, .ref q4, .ref q5, .ref q6, .null, .null, .int 0, .int 0, .null, .null])), (q1, .inl (d, 12, .inl (fun _ => 0))), (q2, .inl (d, 12, .inl (fun _ => 0))), (q3, .inl (d, 12, .inl (fun _ => 0))), (q4, .inl (d, 12, .inl (fun _ => 0))), (q5, .inl (d, 25, .inl (fun _ => 0))), (q6, .inl (d, 25, .inl (fun _ => 0)))] H := hP
  have hD : va_D A [(h0, .inr (0, [.int 0, .ref q1, .ref q2, .ref q3, .ref q4, .ref q5, .ref q6, .null, .null, .int 0, .int 0, .null, .null])), (q1, .inl (d, 12, .inl (fun _ => 0))), (q2, .inl (d, 12, .inl (fun _ => 0))), (q3, .inl (d, 12, .inl (fun _ => 0))), (q4, .inl (d, 12, .inl (fun _ => 0))), (q5, .inl (d, 25, .inl (fun _ => 0))), (q6, .inl (d, 25, .inl (fun _ => 0)))] := hD
  refine lv_aload_n hx hb dX0_init_52 rfl (lv_at hl 0 rfl) ?_
  refine lv_bipush (v := nI 25) hx hb dX0_init_53 (by decide) ?_
  refine va_newa (atype := .int) (a0 := (25, .inl (fun _ => 0))) hx hb (hts _ q66) rfl hK hP hD hS hA (fun _ => rfl) (by decide) (N' := 25) (by decide) (by decide) (Nat.le_of_ble_eq_true rfl) (Nat.le_of_ble_eq_true rfl) dX0_init_55 (fun q7 cA H hK hP hD hS => ?_)
  obtain rfl : d = cA := cr_same hK 0 1 rfl rfl
  have hK := hK.sub (tys' := [(d, .int)]) [0] rfl
  have hP : va_P D vwCl [(h0, .inr (0, [.int 0, .ref q1, .ref q2, .ref q3, .ref q4, .ref q5, .ref q6, .null, .null, .int 0, .int 0, .null, .null])), (q1, .inl (d, 12, .inl (fun _ => 0))), (q2, .inl (d, 12, .inl (fun _ => 0))), (q3, .inl (d, 12, .inl (fun _ => 0))), (q4, .inl (d, 12, .inl (fun _ => 0))), (q5, .inl (d, 25, .inl (fun _ => 0))), (q6, .inl (d, 25, .inl (fun _ => 0))), (q7, .inl (d, 25, .inl (fun _ => 0)))] H := hP
  have hD : va_D A [(h0, .inr (0, [.int 0, .ref q1, .ref q2, .ref q3, .ref q4, .ref q5, .ref q6, .null, .null, .int 0, .int 0, .null, .null])), (q1, .inl (d, 12, .inl (fun _ => 0))), (q2, .inl (d, 12, .inl (fun _ => 0))), (q3, .inl (d, 12, .inl (fun _ => 0))), (q4, .inl (d, 12, .inl (fun _ => 0))), (q5, .inl (d, 25, .inl (fun _ => 0))), (q6, .inl (d, 25, .inl (fun _ => 0))), (q7, .inl (d, 25, .inl (fun _ => 0)))] := hD
  refine W.widen (k := 7) (n := 123) (Nat.le_of_ble_eq_true rfl) (Nat.le_of_ble_eq_true rfl) ?_
  refine va_putF (D := D) (ci := 0) (v := .ref q7) (ty := .array .int) (C := RX0) (T := TX0) (N := 13) hx hb hts in_X0 tyX0 tyX0_ok nmX0 hown hK hP hD hS 0 rfl rfl 7 (by decide) (hts _ q33) (fun _ h9 => h9) rfl hin rfl (by decide +kernel) rfl rfl (Nat.le_of_ble_eq_true rfl) dX0_init_57 (fun H locs hP hD hS => ?_)
  have hP : va_P D vwCl [(h0, .inr (0, [.int 0, .ref q1, .ref q2, .ref q3, .ref q4, .ref q5, .ref q6, .ref q7, .null, .int 0, .int 0, .null, .null])), (q1, .inl (d, 12, .inl (fun _ => 0))), (q2, .inl (d, 12, .inl (fun _ => 0))), (q3, .inl (d, 12, .inl (fun _ => 0))), (q4, .inl (d, 12, .inl (fun _ => 0))), (q5, .inl (d, 25, .inl (fun _ => 0))), (q6, .inl (d, 25, .inl (fun _ => 0))), (q7, .inl (d, 25, .inl (fun _ => 0)))] H := hP
  have hD : va_D A [(h0, .inr (0, [.int 0, .ref q1, .ref q2, .ref q3, .ref q4, .ref q5, .ref q6, .ref q7, .null, .int 0, .int 0, .null, .null])), (q1, .inl (d, 12, .inl (fun _ => 0))), (q2, .inl (d, 12, .inl (fun _ => 0))), (q3, .inl (d, 12, .inl (fun _ => 0))), (q4, .inl (d, 12, .inl (fun _ => 0))), (q5, .inl (d, 25, .inl (fun _ => 0))), (q6, .inl (d, 25, .inl (fun _ => 0))), (q7, .inl (d, 25, .inl (fun _ => 0)))] := hD
  refine lv_aload_n hx hb dX0_init_60 rfl (lv_at hl 0 rfl) ?_
  refine lv_bipush (v := nI 25) hx hb dX0_init_61 (by decide) ?_
  refine va_newa (atype := .int) (a0 := (25, .inl (fun _ => 0))) hx hb (hts _ q66) rfl hK hP hD hS hA (fun _ => rfl) (by decide) (N' := 25) (by decide) (by decide) (Nat.le_of_ble_eq_true rfl) (Nat.le_of_ble_eq_true rfl) dX0_init_63 (fun q8 cA H hK hP hD hS => ?_)
  obtain rfl : d = cA := cr_same hK 0 1 rfl rfl
  have hK := hK.sub (tys' := [(d, .int)]) [0] rfl
  have hP : va_P D vwCl [(h0, .inr (0, [.int 0, .ref q1, .ref q2, .ref q3, .ref q4, .ref q5, .ref q6, .ref q7, .null, .int 0, .int 0, .null, .null])), (q1, .inl (d, 12, .inl (fun _ => 0))), (q2, .inl (d, 12, .inl (fun _ => 0))), (q3, .inl (d, 12, .inl (fun _ => 0))), (q4, .inl (d, 12, .inl (fun _ => 0))), (q5, .inl (d, 25, .inl (fun _ => 0))), (q6, .inl (d, 25, .inl (fun _ => 0))), (q7, .inl (d, 25, .inl (fun _ => 0))), (q8, .inl (d, 25, .inl (fun _ => 0)))] H := hP
  have hD : va_D A [(h0, .inr (0, [.int 0, .ref q1, .ref q2, .ref q3, .ref q4, .ref q5, .ref q6, .ref q7, .null, .int 0, .int 0, .null, .null])), (q1, .inl (d, 12, .inl (fun _ => 0))), (q2, .inl (d, 12, .inl (fun _ => 0))), (q3, .inl (d, 12, .inl (fun _ => 0))), (q4, .inl (d, 12, .inl (fun _ => 0))), (q5, .inl (d, 25, .inl (fun _ => 0))), (q6, .inl (d, 25, .inl (fun _ => 0))), (q7, .inl (d, 25, .inl (fun _ => 0))), (q8, .inl (d, 25, .inl (fun _ => 0)))] := hD
  refine W.widen (k := 8) (n := 148) (Nat.le_of_ble_eq_true rfl) (Nat.le_of_ble_eq_true rfl) ?_
  refine va_putF (D := D) (ci := 0) (v := .ref q8) (ty := .array .int) (C := RX0) (T := TX0) (N := 13) hx hb hts in_X0 tyX0 tyX0_ok nmX0 hown hK hP hD hS 0 rfl rfl 8 (by decide) (hts _ q34) (fun _ h9 => h9) rfl hin rfl (by decide +kernel) rfl rfl (Nat.le_of_ble_eq_true rfl) dX0_init_65 (fun H locs hP hD hS => ?_)
  have hP : va_P D vwCl [(h0, .inr (0, [.int 0, .ref q1, .ref q2, .ref q3, .ref q4, .ref q5, .ref q6, .ref q7, .ref q8, .int 0, .int 0, .null, .null])), (q1, .inl (d, 12, .inl (fun _ => 0))), (q2, .inl (d, 12, .inl (fun _ => 0))), (q3, .inl (d, 12, .inl (fun _ => 0))), (q4, .inl (d, 12, .inl (fun _ => 0))), (q5, .inl (d, 25, .inl (fun _ => 0))), (q6, .inl (d, 25, .inl (fun _ => 0))), (q7, .inl (d, 25, .inl (fun _ => 0))), (q8, .inl (d, 25, .inl (fun _ => 0)))] H := hP
  have hD : va_D A [(h0, .inr (0, [.int 0, .ref q1, .ref q2, .ref q3, .ref q4, .ref q5, .ref q6, .ref q7, .ref q8, .int 0, .int 0, .null, .null])), (q1, .inl (d, 12, .inl (fun _ => 0))), (q2, .inl (d, 12, .inl (fun _ => 0))), (q3, .inl (d, 12, .inl (fun _ => 0))), (q4, .inl (d, 12, .inl (fun _ => 0))), (q5, .inl (d, 25, .inl (fun _ => 0))), (q6, .inl (d, 25, .inl (fun _ => 0))), (q7, .inl (d, 25, .inl (fun _ => 0))), (q8, .inl (d, 25, .inl (fun _ => 0)))] := hD
  refine lv_aload_n hx hb dX0_init_68 rfl (lv_at hl 0 rfl) ?_
  refine lv_bipush (v := nI 8) hx hb dX0_init_69 (by decide) ?_
  refine va_newa (atype := .int) (a0 := (8, .inl (fun _ => 0))) hx hb (hts _ q66) rfl hK hP hD hS hA (fun _ => rfl) (by decide) (N' := 8) (by decide) (by decide) (Nat.le_of_ble_eq_true rfl) (Nat.le_of_ble_eq_true rfl) dX0_init_71 (fun q9 cA H hK hP hD hS => ?_)
  obtain rfl : d = cA := cr_same hK 0 1 rfl rfl
  have hK := hK.sub (tys' := [(d, .int)]) [0] rfl
  have hP : va_P D vwCl [(h0, .inr (0, [.int 0, .ref q1, .ref q2, .ref q3, .ref q4, .ref q5, .ref q6, .ref q7, .ref q8, .int 0, .int 0, .null, .null])), (q1, .inl (d, 12, .inl (fun _ => 0))), (q2, .inl (d, 12, .inl (fun _ => 0))), (q3, .inl (d, 12, .inl (fun _ => 0))), (q4, .inl (d, 12, .inl (fun _ => 0))), (q5, .inl (d, 25, .inl (fun _ => 0))), (q6, .inl (d, 25, .inl (fun _ => 0))), (q7, .inl (d, 25, .inl (fun _ => 0))), (q8, .inl (d, 25, .inl (fun _ => 0))), (q9, .inl (d, 8, .inl (fun _ => 0)))] H := hP
  have hD : va_D A [(h0, .inr (0, [.int 0, .ref q1, .ref q2, .ref q3, .ref q4, .ref q5, .ref q6, .ref q7, .ref q8, .int 0, .int 0, .null, .null])), (q1, .inl (d, 12, .inl (fun _ => 0))), (q2, .inl (d, 12, .inl (fun _ => 0))), (q3, .inl (d, 12, .inl (fun _ => 0))), (q4, .inl (d, 12, .inl (fun _ => 0))), (q5, .inl (d, 25, .inl (fun _ => 0))), (q6, .inl (d, 25, .inl (fun _ => 0))), (q7, .inl (d, 25, .inl (fun _ => 0))), (q8, .inl (d, 25, .inl (fun _ => 0))), (q9, .inl (d, 8, .inl (fun _ => 0)))] := hD
  refine W.widen (k := 9) (n := 156) (Nat.le_of_ble_eq_true rfl) (Nat.le_of_ble_eq_true rfl) ?_
  refine va_putF (D := D) (ci := 0) (v := .ref q9) (ty := .array .int) (C := RX0) (T := TX0) (N := 13) hx hb hts in_X0 tyX0 tyX0_ok nmX0 hown hK hP hD hS 0 rfl rfl 11 (by decide) (hts _ q37) (fun _ h9 => h9) rfl hin rfl (by decide +kernel) rfl rfl (Nat.le_of_ble_eq_true rfl) dX0_init_73 (fun H locs hP hD hS => ?_)
  have hP : va_P D vwCl [(h0, .inr (0, [.int 0, .ref q1, .ref q2, .ref q3, .ref q4, .ref q5, .ref q6, .ref q7, .ref q8, .int 0, .int 0, .ref q9, .null])), (q1, .inl (d, 12, .inl (fun _ => 0))), (q2, .inl (d, 12, .inl (fun _ => 0))), (q3, .inl (d, 12, .inl (fun _ => 0))), (q4, .inl (d, 12, .inl (fun _ => 0))), (q5, .inl (d, 25, .inl (fun _ => 0))), (q6, .inl (d, 25, .inl (fun _ => 0))), (q7, .inl (d, 25, .inl (fun _ => 0))), (q8, .inl (d, 25, .inl (fun _ => 0))), (q9, .inl (d, 8, .inl (fun _ => 0)))] H := hP
  have hD : va_D A [(h0, .inr (0, [.int 0, .ref q1, .ref q2, .ref q3, .ref q4, .ref q5, .ref q6, .ref q7, .ref q8, .int 0, .int 0, .ref q9, .null])), (q1, .inl (d, 12, .inl (fun _ => 0))), (q2, .inl (d, 12, .inl (fun _ => 0))), (q3, .inl (d, 12, .inl (fun _ => 0))), (q4, .inl (d, 12, .inl (fun _ => 0))), (q5, .inl (d, 25, .inl (fun _ => 0))), (q6, .inl (d, 25, .inl (fun _ => 0))), (q7, .inl (d, 25, .inl (fun _ => 0))), (q8, .inl (d, 25, .inl (fun _ => 0))), (q9, .inl (d, 8, .inl (fun _ => 0)))] := hD
  refine lv_aload_n hx hb dX0_init_76 rfl (lv_at hl 0 rfl) ?_
  refine lv_bipush (v := nI 8) hx hb dX0_init_77 (by decide) ?_
  refine va_newa (atype := .int) (a0 := (8, .inl (fun _ => 0))) hx hb (hts _ q66) rfl hK hP hD hS hA (fun _ => rfl) (by decide) (N' := 8) (by decide) (by decide) (Nat.le_of_ble_eq_true rfl) (Nat.le_of_ble_eq_true rfl) dX0_init_79 (fun q10 cA H hK hP hD hS => ?_)
  obtain rfl : d = cA := cr_same hK 0 1 rfl rfl
  have hK := hK.sub (tys' := [(d, .int)]) [0] rfl
  have hP : va_P D vwCl [(h0, .inr (0, [.int 0, .ref q1, .ref q2, .ref q3, .ref q4, .ref q5, .ref q6, .ref q7, .ref q8, .int 0, .int 0, .ref q9, .null])), (q1, .inl (d, 12, .inl (fun _ => 0))), (q2, .inl (d, 12, .inl (fun _ => 0))), (q3, .inl (d, 12, .inl (fun _ => 0))), (q4, .inl (d, 12, .inl (fun _ => 0))), (q5, .inl (d, 25, .inl (fun _ => 0))), (q6, .inl (d, 25, .inl (fun _ => 0))), (q7, .inl (d, 25, .inl (fun _ => 0))), (q8, .inl (d, 25, .inl (fun _ => 0))), (q9, .inl (d, 8, .inl (fun _ => 0))), (q10, .inl (d, 8, .inl (fun _ => 0)))] H := hP
  have hD : va_D A [(h0, .inr (0, [.int 0, .ref q1, .ref q2, .ref q3, .ref q4, .ref q5, .ref q6, .ref q7, .ref q8, .int 0, .int 0, .ref q9, .null])), (q1, .inl (d, 12, .inl (fun _ => 0))), (q2, .inl (d, 12, .inl (fun _ => 0))), (q3, .inl (d, 12, .inl (fun _ => 0))), (q4, .inl (d, 12, .inl (fun _ => 0))), (q5, .inl (d, 25, .inl (fun _ => 0))), (q6, .inl (d, 25, .inl (fun _ => 0))), (q7, .inl (d, 25, .inl (fun _ => 0))), (q8, .inl (d, 25, .inl (fun _ => 0))), (q9, .inl (d, 8, .inl (fun _ => 0))), (q10, .inl (d, 8, .inl (fun _ => 0)))] := hD
  refine W.widen (k := 10) (n := 164) (Nat.le_of_ble_eq_true rfl) (Nat.le_of_ble_eq_true rfl) ?_
  refine va_putF (D := D) (ci := 0) (v := .ref q10) (ty := .array .int) (C := RX0) (T := TX0) (N := 13) hx hb hts in_X0 tyX0 tyX0_ok nmX0 hown hK hP hD hS 0 rfl rfl 12 (by decide) (hts _ q38) (fun _ h9 => h9) rfl hin rfl (by decide +kernel) rfl rfl (Nat.le_of_ble_eq_true rfl) dX0_init_81 (fun H locs hP hD hS => ?_)
  have hP : va_P D vwCl [(h0, .inr (0, [.int 0, .ref q1, .ref q2, .ref q3, .ref q4, .ref q5, .ref q6, .ref q7, .ref q8, .int 0, .int 0, .ref q9, .ref q10])), (q1, .inl (d, 12, .inl (fun _ => 0))), (q2, .inl (d, 12, .inl (fun _ => 0))), (q3, .inl (d, 12, .inl (fun _ => 0))), (q4, .inl (d, 12, .inl (fun _ => 0))), (q5, .inl (d, 25, .inl (fun _ => 0))), (q6, .inl (d, 25, .inl (fun _ => 0))), (q7, .inl (d, 25, .inl (fun _ => 0))), (q8, .inl (d, 25, .inl (fun _ => 0))), (q9, .inl (d, 8, .inl (fun _ => 0))), (q10, .inl (d, 8, .inl (fun _ => 0)))] H := hP
  have hD : va_D A [(h0, .inr (0, [.int 0, .ref q1, .ref q2, .ref q3, .ref q4, .ref q5, .ref q6, .ref q7, .ref q8, .int 0, .int 0, .ref q9, .ref q10])), (q1, .inl (d, 12, .inl (fun _ => 0))), (q2, .inl (d, 12, .inl (fun _ => 0))), (q3, .inl (d, 12, .inl (fun _ => 0))), (q4, .inl (d, 12, .inl (fun _ => 0))), (q5, .inl (d, 25, .inl (fun _ => 0))), (q6, .inl (d, 25, .inl (fun _ => 0))), (q7, .inl (d, 25, .inl (fun _ => 0))), (q8, .inl (d, 25, .inl (fun _ => 0))), (q9, .inl (d, 8, .inl (fun _ => 0))), (q10, .inl (d, 8, .inl (fun _ => 0)))] := hD
  refine lv_aload_n hx hb dX0_init_84 rfl (lv_at hl 0 rfl) ?_
  refine lv_iconst (v := nI 0) hx hb dX0_init_85 (by decide) ?_
  refine va_put (D := D) (ci := 0) (v := .int (nI 0)) (ty := .int) (C := RX0) (T := TX0) (N := 13) hx hb hts in_X0 tyX0 tyX0_ok nmX0 hown hK hP hD hS 0 rfl rfl 0 (by decide) (hts _ q26) (fun _ h9 => h9) rfl (by decide +kernel) rfl rfl (Nat.le_of_ble_eq_true rfl) dX0_init_86 (fun H locs hP hD hS => ?_)
  have hP : va_P D vwCl [(h0, .inr (0, [.int (nI 0), .ref q1, .ref q2, .ref q3, .ref q4, .ref q5, .ref q6, .ref q7, .ref q8, .int 0, .int 0, .ref q9, .ref q10])), (q1, .inl (d, 12, .inl (fun _ => 0))), (q2, .inl (d, 12, .inl (fun _ => 0))), (q3, .inl (d, 12, .inl (fun _ => 0))), (q4, .inl (d, 12, .inl (fun _ => 0))), (q5, .inl (d, 25, .inl (fun _ => 0))), (q6, .inl (d, 25, .inl (fun _ => 0))), (q7, .inl (d, 25, .inl (fun _ => 0))), (q8, .inl (d, 25, .inl (fun _ => 0))), (q9, .inl (d, 8, .inl (fun _ => 0))), (q10, .inl (d, 8, .inl (fun _ => 0)))] H := hP
  have hD : va_D A [(h0, .inr (0, [.int (nI 0), .ref q1, .ref q2, .ref q3, .ref q4, .ref q5, .ref q6, .ref q7, .ref q8, .int 0, .int 0, .ref q9, .ref q10])), (q1, .inl (d, 12, .inl (fun _ => 0))), (q2, .inl (d, 12, .inl (fun _ => 0))), (q3, .inl (d, 12, .inl (fun _ => 0))), (q4, .inl (d, 12, .inl (fun _ => 0))), (q5, .inl (d, 25, .inl (fun _ => 0))), (q6, .inl (d, 25, .inl (fun _ => 0))), (q7, .inl (d, 25, .inl (fun _ => 0))), (q8, .inl (d, 25, .inl (fun _ => 0))), (q9, .inl (d, 8, .inl (fun _ => 0))), (q10, .inl (d, 8, .inl (fun _ => 0)))] := hD
  exact W.vret hx hb hr (fun t ht hW => ⟨⟨((fun k => [h0, q1, q2, q3, q4, q5, q6, q7, q8, q9, q10].getD k 0), d), rfl, rfl, by rw [ht]; exact hP, va_K.moved hW.alike hK, hD⟩, hS.F ht⟩) hS.2.2 dX0_init_89
set_option maxHeartbeats 400000 in
set_option maxRecDepth 100000 in
/-- the constructor: all arrays are made, all zero -/
theorem metX1_init (l : Launch) (D : va_G) (h0 : Nat) (sz : Nat) : Met l yX1_init (ws_ yX1_init cX1_init 1 none) ({ frames := 1, cells := 4, slots := 52, locals := 12 } : Room) (va_Pc [.ref h0] (fun U => U.heap.size = sz ∧ va_P D vwCl [(h0, .inr (1, [.null, .null, .null, .null, .int 0]))] U.heap ∧ va_K D vwCl [] U ∧ va_D (fun _ => True) [(h0, .inr (1, [.null, .null, .null, .null, .int 0]))])) (va_Qv (S := (Nat → Nat) × ClassId) (fun u => u.1 0 = h0) (fun u t => va_P D vwCl (mw u.2 u.1 (nI 0) (fun _ => 0) (fun _ => 0) (fun _ => 0) (fun _ => 0)) t.heap ∧ va_K D vwCl [(u.2, .int)] t ∧ va_D (va_A [(h0, .inr (1, [.null, .null, .null, .null, .int 0]))] sz) (mw u.2 u.1 (nI 0) (fun _ => 0) (fun _ => 0) (fun _ => 0) (fun _ => 0))) (va_A [(h0, .inr (1, [.null, .null, .null, .null, .int 0]))] sz)) 4 52 (va_A [(h0, .inr (1, [.null, .null, .null, .null, .int 0]))] sz) := by
  refine Met.ofW (cc := cX1_init) (maxL := 1) (ret := none) (by decide) rfl ?_
  intro p env s m args below meth c s₁ B hml hv
  obtain ⟨rfl, hsz, hP, hK, hD0⟩ := hv
  have hx := B.exec
  have hb := B.bytes
  have hr := B.returns
  have hts := atoms_spec (ws := ws_ yX1_init cX1_init 1 none) B.pre
  have hts : ∀ w ∈ lw_all, w.before _ s = true := fun w h => hts w (List.mem_cons_of_mem _ h)
  have hown : s.vm.findClass RX1 = some m.cls := findClass_of_methodNamed B.named
  have hlocks := B.notSynchronized
  have hin : meth.name = "<init>" := (name_of_methodNamed B.named B.method).1
  subst hsz
  have hD := hD0.self (sz := s.heap.size)
  generalize hAe : va_A [(h0, .inr (1, [.null, .null, .null, .null, .int 0]))] s.heap.size = A at hD ⊢
  have hA : ∀ q : Nat, s.heap.size ≤ q → A q := fun q h => by rw [← hAe]; exact Or.inr h
  have hS : va_S A s.heap s.heap [] := va_S.rf
  have hl := lv_entry ([.ref h0]) (n := 1) (Nat.le_of_ble_eq_true rfl)
  rw [lg_entry_eq]
  generalize (lg_sl ([.ref h0]) ++ List.replicate (1 - (lg_sl ([.ref h0])).length) Slot.unset).toArray = ls at hl ⊢
  have hl : lv_has ls 1 [(0, .ref h0)] := hl
  refine lv_aload_n hx hb dX1_init_0 rfl (lv_at hl 0 rfl) ?_
  refine W.objInit hx hb hown (hts _ q155) (hts _ q24) (hts _ q25) rfl (by rw [hml]; exact hl.1) rfl dX1_init_1 (Nat.le_of_ble_eq_true rfl) (Nat.le_of_ble_eq_true rfl) ?_
  refine W.eq (g2 := F0 m 4 ls []) rfl ?_
  refine lv_aload_n hx hb dX1_init_4 rfl (lv_at hl 0 rfl) ?_
  refine lv_bipush (v := nI 13) hx hb dX1_init_5 (by decide) ?_
  refine va_newa (atype := .int) (a0 := (13, .inl (fun _ => 0))) hx hb (hts _ q66) rfl hK hP hD hS hA (fun _ => rfl) (by decide) (N' := 13) (by decide) (by decide) (Nat.le_of_ble_eq_true rfl) (Nat.le_of_ble_eq_true rfl) dX1_init_7 (fun q1 cA H hK hP hD hS => ?_)
  obtain ⟨d, rfl⟩ : ∃ z, z = cA := ⟨_, rfl⟩
  have hK := hK.sub (tys' := [(d, .int)]) [0] rfl
  have hP : va_P D vwCl [(h0, .inr (1, [.null, .null, .null, .null, .int 0])), (q1, .inl (d, 13, .inl (fun _ => 0)))] H := hP
  have hD : va_D A [(h0, .inr (1, [.null, .null, .null, .null, .int 0])), (q1, .inl (d, 13, .inl (fun _ => 0)))] := hD
  refine W.widen (k := 1) (n := 13) (Nat.le_of_ble_eq_true rfl) (Nat.le_of_ble_eq_true rfl) ?_
  refine va_putF (D := D) (ci := 1) (v := .ref q1) (ty := .array .int) (C := RX1) (T := TX1) (N := 5) hx hb hts in_X1 tyX1 tyX1_ok nmX1 hown hK hP hD hS 0 rfl rfl 0 (by decide) (hts _ q156) (fun _ h9 => h9) rfl hin rfl (by decide +kernel) rfl rfl (Nat.le_of_ble_eq_true rfl) dX1_init_9 (fun H locs hP hD hS => ?_)
  have hP : va_P D vwCl [(h0, .inr (1, [.ref q1, .null, .null, .null, .int 0])), (q1, .inl (d, 13, .inl (fun _ => 0)))] H := hP
  have hD : va_D A [(h0, .inr (1, [.ref q1, .null, .null, .null, .int 0])), (q1, .inl (d, 13, .inl (fun _ => 0)))] := hD
  refine lv_aload_n hx hb dX1_init_12 rfl (lv_at hl 0 rfl) ?_
  refine lv_bipush (v := nI 13) hx hb dX1_init_13 (by decide) ?_
  refine va_newa (atype := .int) (a0 := (13, .inl (fun _ => 0))) hx hb (hts _ q66) rfl hK hP hD hS hA (fun _ => rfl) (by decide) (N' := 13) (by decide) (by decide) (Nat.le_of_ble_eq_true rfl) (Nat.le_of_ble_eq_true rfl) dX1_init_15 (fun q2 cA H hK hP hD hS => ?_)
  obtain rfl : d = cA := cr_same hK 0 1 rfl rfl
  have hK := hK.sub (tys' := [(d, .int)]) [0] rfl
  have hP : va_P D vwCl [(h0, .inr (1, [.ref q1, .null, .null, .null, .int 0])), (q1, .inl (d, 13, .inl (fun _ => 0))), (q2, .inl (d, 13, .inl (fun _ => 0)))] H := hP
  have hD : va_D A [(h0, .inr (1, [.ref q1, .null, .null, .null, .int 0])), (q1, .inl (d, 13, .inl (fun _ => 0))), (q2, .inl (d, 13, .inl (fun _ => 0)))] := hD
  refine W.widen (k := 2) (n := 26) (Nat.le_of_ble_eq_true rfl) (Nat.le_of_ble_eq_true rfl) ?_
  refine va_putF (D := D) (ci := 1) (v := .ref q2) (ty := .array .int) (C := RX1) (T := TX1) (N := 5) hx hb hts in_X1 tyX1 tyX1_ok nmX1 hown hK hP hD hS 0 rfl rfl 1 (by decide) (hts _ q157) (fun _ h9 => h9) rfl hin rfl (by decide +kernel) rfl rfl (Nat.le_of_ble_eq_true rfl) dX1_init_17 (fun H locs hP hD hS => ?_)
  have hP : va_P D vwCl [(h0, .inr (1, [.ref q1, .ref q2, .null, .null, .int 0])), (q1, .inl (d, 13, .inl (fun _ => 0))), (q2, .inl (d, 13, .inl (fun _ => 0)))] H := hP
  have hD : va_D A [(h0, .inr (1, [.ref q1, .ref q2, .null, .null, .int 0])), (q1, .inl (d, 13, .inl (fun _ => 0))), (q2, .inl (d, 13, .inl (fun _ => 0)))] := hD
  refine lv_aload_n hx hb dX1_init_20 rfl (lv_at hl 0 rfl) ?_
  refine lv_bipush (v := nI 13) hx hb dX1_init_21 (by decide) ?_
  refine va_newa (atype := .int) (a0 := (13, .inl (fun _ => 0))) hx hb (hts _ q66) rfl hK hP hD hS hA (fun _ => rfl) (by decide) (N' := 13) (by decide) (by decide) (Nat.le_of_ble_eq_true rfl) (Nat.le_of_ble_eq_true rfl) dX1_init_23 (fun q3 cA H hK hP hD hS => ?_)
  obtain rfl : d = cA := cr_same hK 0 1 rfl rfl
  have hK := hK.sub (tys' := [(d, .int)]) [0] rfl
  have hP : va_P D vwCl [(h0, .inr (1, [.ref q1, .ref q2, .null, .null, .int 0])), (q1, .inl (d, 13, .inl (fun _ => 0))), (q2, .inl (d, 13, .inl (fun _ => 0))), (q3, .inl (d, 13, .inl (fun _ => 0)))] H := hP
  have hD : va_D A [(h0, .inr (1, [.ref q1, .ref q2, .null, .null, .int 0])), (q1, .inl (d, 13, .inl (fun _ => 0))), (q2, .inl (d, 13, .inl (fun _ => 0))), (q3, .inl (d, 13, .inl (fun _ => 0)))] := hD
  refine W.widen (k := 3) (n := 39) (Nat.le_of_ble_eq_true rfl) (Nat.le_of_ble_eq_true rfl) ?_
  refine va_putF (D := D) (ci := 1) (v := .ref q3) (ty := .array .int) (C := RX1) (T := TX1) (N := 5) hx hb hts in_X1 tyX1 tyX1_ok nmX1 hown hK hP hD hS 0 rfl rfl 2 (by decide) (hts _ q158) (fun _ h9 => h9) rfl hin rfl (by decide +kernel) rfl rfl (Nat.le_of_ble_eq_true rfl) dX1_init_25 (fun H locs hP hD hS => ?_)
  have hP : va_P D vwCl [(h0, .inr (1, [.ref q1, .ref q2, .ref q3, .null, .int 0])), (q1, .inl (d, 13, .inl (fun _ => 0))), (q2, .inl (d, 13, .inl (fun _ => 0))), (q3, .inl (d, 13, .inl (fun _ => 0)))] H := hP
  have hD : va_D A [(h0, .inr (1, [.ref q1, .ref q2, .ref q3, .null, .int 0])), (q1, .inl (d, 13, .inl (fun _ => 0))), (q2, .inl (d, 13, .inl (fun _ => 0))), (q3, .inl (d, 13, .inl (fun _ => 0)))] := hD
  refine lv_aload_n hx hb dX1_init_28 rfl (lv_at hl 0 rfl) ?_
  refine lv_bipush (v := nI 13) hx hb dX1_init_29 (by decide) ?_
  refine va_newa (atype := .int) (a0 := (13, .inl (fun _ => 0))) hx hb (hts _ q66) rfl hK hP hD hS hA (fun _ => rfl) (by decide) (N' := 13) (by decide) (by decide) (Nat.le_of_ble_eq_true rfl) (Nat.le_of_ble_eq_true rfl) dX1_init_31 (fun q4 cA H hK hP hD hS => ?_)
  obtain rfl : d = cA := cr_same hK 0 1 rfl rfl
  have hK := hK.sub (tys' := [(d, .int)]) [0] rfl
  have hP : va_P D vwCl [(h0, .inr (1, [.ref q1, .ref q2, .ref q3, .null, .int 0])), (q1, .inl (d, 13, .inl (fun _ => 0))), (q2, .inl (d, 13, .inl (fun _ => 0))), (q3, .inl (d, 13, .inl (fun _ => 0))), (q4, .inl (d, 13, .inl (fun _ => 0)))] H := hP
  have hD : va_D A [(h0, .inr (1, [.ref q1, .ref q2, .ref q3, .null, .int 0])), (q1, .inl (d, 13, .inl (fun _ => 0))), (q2, .inl (d, 13, .inl (fun _ => 0))), (q3, .inl (d, 13, .inl (fun _ => 0))), (q4, .inl (d, 13, .inl (fun _ => 0)))] := hD
  refine W.widen (k := 4) (n := 52) (Nat.le_of_ble_eq_true rfl) (Nat.le_of_ble_eq_true rfl) ?_
  refine va_putF (D := D) (ci := 1) (v := .ref q4) (ty := .array .int) (C := RX1) (T := TX1) (N := 5) hx hb hts in_X1 tyX1 tyX1_ok nmX1 hown hK hP hD hS 0 rfl rfl 3 (by decide) (hts _ q159) (fun _ h9 => h9) rfl hin rfl (by decide +kernel) rfl rfl (Nat.le_of_ble_eq_true rfl) dX1_init_33 (fun H locs hP hD hS => ?_)
  have hP : va_P D vwCl [(h0, .inr (1, [.ref q1, .ref q2, .ref q3, .ref q4, .int 0])), (q1, .inl (d, 13, .inl (fun _ => 0))), (q2, .inl (d, 13, .inl (fun _ => 0))), (q3, .inl (d, 13, .inl (fun _ => 0))), (q4, .inl (d, 13, .inl (fun _ => 0)))] H := hP
  have hD : va_D A [(h0, .inr (1, [.ref q1, .ref q2, .ref q3, .ref q4, .int 0])), (q1, .inl (d, 13, .inl (fun _ => 0))), (q2, .inl (d, 13, .inl (fun _ => 0))), (q3, .inl (d, 13, .inl (fun _ => 0))), (q4, .inl (d, 13, .inl (fun _ => 0)))] := hD
  exact W.vret hx hb hr (fun t ht hW => ⟨⟨((fun k => [h0, q1, q2, q3, q4].getD k 0), d), rfl, rfl, by rw [ht]; exact hP, va_K.moved hW.alike hK, hD⟩, hS.F ht⟩) hS.2.2 dX1_init_36
end
section
/-! PLAIN: class and reference agree, call by call -/
/-- the same arcs on both sides, and fair ones -/
def cr_LI (n : Nat) (fr to lo hi mt mh ml mi : Nat → Int32) : Prop := cr_Arcs n fr to lo hi ∧ cr_Ag n fr to lo hi mt mh ml mi
theorem cr_LI_arcs {n : Nat} {fr to lo hi mt mh ml mi : Nat → Int32} (h : cr_LI n fr to lo hi mt mh ml mi) : cr_Arcs n mt mh ml mi := by
  refine ⟨h.1.1, fun a ha => ?_⟩
  obtain ⟨h1, h2, h3, h4⟩ := h.2 a ha
  have h5 := h.1.2 a ha
  show mt a = nI (mt a).toNatClampNeg ∧ mh a = nI (mh a).toNatClampNeg ∧ (mt a).toNatClampNeg < 6 ∧ (mh a).toNatClampNeg < 6 ∧ (mt a).toNatClampNeg ≠ (mh a).toNatClampNeg ∧ 0 ≤ (ml a).toInt ∧ (ml a).toInt ≤ (mi a).toInt ∧ (mi a).toInt ≤ 20
  rw [h1, h2, h3, h4]
  exact h5
theorem cr_LI_sm {n : Nat} {fr to lo hi mt mh ml mi : Nat → Int32} (h : cr_LI n fr to lo hi mt mh ml mi) : cr_Sm (cr_n fr) (cr_n to) (cr_n mt) (cr_n mh) (cr_i lo) (cr_i hi) (cr_i ml) (cr_i mi) n := cr_Sm_symm (cr_Ag_sm h.2)
theorem cr_gv_nI {x : Int32} (h : 0 ≤ x.toInt ∧ x.toInt < 6) : x = nI x.toNatClampNeg ∧ x.toNatClampNeg < 6 := by
  obtain ⟨k, hk, e⟩ := cr_ofI (n := 6) h (by decide)
  rw [e, nI_clamp (by omega)]
  exact ⟨rfl, hk⟩
/-- both sides' new numbers -/
def cr_LU (n : Nat) (u1 u2 : cr_U) : Prop := u1.1 = nI n ∧ u2.1 = nI n ∧ cr_LI n u1.2.1 u1.2.2.1 u1.2.2.2.1 u1.2.2.2.2 u2.2.1 u2.2.2.1 u2.2.2.2.1 u2.2.2.2.2
theorem cr_law_arc {n : Nat} {fr to lo hi mt mh ml mi : Nat → Int32} {f t m r1 r2 : Int32} {u1 u2 : cr_U} (hI : cr_LI n fr to lo hi mt mh ml mi) (h1 : cr_Parc n (nI n, fr, to, lo, hi) f t m r1 u1) (h2 : cr_Parc n (nI n, mt, mh, ml, mi) f t m r2 u2) : r1 = r2 ∧ ∃ k, cr_LU k u1 u2 := by
  rcases h1 with ⟨a1, a2, rfl⟩ | ⟨a1, b1, a2, rfl⟩ | ⟨a1, b1, c1, a2, rfl⟩ | ⟨a1, b1, c1, a2, rfl⟩ <;> rcases h2 with ⟨d1, d2, rfl⟩ | ⟨d1, e1, d2, rfl⟩ | ⟨d1, e1, f1, d2, rfl⟩ | ⟨d1, e1, f1, d2, rfl⟩
  · exact ⟨a2.trans d2.symm, n, rfl, rfl, hI⟩
  · exact absurd d1 a1
  · exact absurd d1 a1
  · exact absurd d1 a1
  · exact absurd a1 d1
  · exact ⟨a2.trans d2.symm, n, rfl, rfl, hI⟩
  · exact absurd e1 b1
  · exact absurd e1 b1
  · exact absurd a1 d1
  · exact absurd b1 e1
  · exact ⟨a2.trans d2.symm, n, rfl, rfl, hI⟩
  · omega
  · exact absurd a1 d1
  · exact absurd b1 e1
  · omega
  · refine ⟨a2.trans d2.symm, n + 1, rfl, rfl, ⟨by omega, fun a ha => ?_⟩, fun a ha => ?_⟩
    · show upd fr n f a = nI (upd fr n f a).toNatClampNeg ∧ upd to n t a = nI (upd to n t a).toNatClampNeg ∧ (upd fr n f a).toNatClampNeg < 6 ∧ (upd to n t a).toNatClampNeg < 6 ∧ (upd fr n f a).toNatClampNeg ≠ (upd to n t a).toNatClampNeg ∧ 0 ≤ (upd lo n (nI 0) a).toInt ∧ (upd lo n (nI 0) a).toInt ≤ (upd hi n m a).toInt ∧ (upd hi n m a).toInt ≤ 20
      by_cases e : a = n
      · subst e
        rw [pk_us, pk_us, pk_us, pk_us]
        obtain ⟨g1, g2⟩ := cr_gv_nI a1.1
        obtain ⟨g3, g4⟩ := cr_gv_nI a1.2.1
        refine ⟨g1, g3, g2, g4, fun q => a1.2.2 ?_, by decide, b1.1, b1.2⟩
        rw [g1, g3, q]
      · rw [pk_un e, pk_un e, pk_un e, pk_un e]
        exact hI.1.2 a (by omega)
    · show upd mt n f a = upd fr n f a ∧ upd mh n t a = upd to n t a ∧ upd ml n (nI 0) a = upd lo n (nI 0) a ∧ upd mi n m a = upd hi n m a
      by_cases e : a = n
      · subst e
        rw [pk_us, pk_us, pk_us, pk_us, pk_us, pk_us, pk_us, pk_us]
        exact ⟨rfl, rfl, rfl, rfl⟩
      · rw [pk_un e, pk_un e, pk_un e, pk_un e, pk_un e, pk_un e, pk_un e, pk_un e]
        exact hI.2 a (by omega)
theorem cr_law_bou {n : Nat} {fr to lo hi mt mh ml mi : Nat → Int32} {a b m r1 r2 : Int32} {u1 u2 : cr_U} (hI : cr_LI n fr to lo hi mt mh ml mi) (h1 : cr_Pbou n (nI n, fr, to, lo, hi) a b m r1 u1) (h2 : cr_Pbou n (nI n, mt, mh, ml, mi) a b m r2 u2) : r1 = r2 ∧ ∃ k, cr_LU k u1 u2 := by
  have h12 := hI.1.1
  rcases h1 with ⟨a1, a2, rfl⟩ | ⟨a1, b1, a2, rfl⟩ | ⟨b1, k, hk, a1, a2, rfl⟩ <;> rcases h2 with ⟨d1, d2, rfl⟩ | ⟨d1, e1, d2, rfl⟩ | ⟨e1, k', hk', d1, d2, rfl⟩
  · exact ⟨a2.trans d2.symm, n, rfl, rfl, hI⟩
  · exact absurd d1 a1
  · exact absurd (by rw [d1]; exact cr_ia_nI hk' (by omega)) a1
  · exact absurd a1 d1
  · exact ⟨a2.trans d2.symm, n, rfl, rfl, hI⟩
  · exact absurd e1 b1
  · exact absurd (by rw [a1]; exact cr_ia_nI hk (by omega)) d1
  · exact absurd b1 e1
  · have ek : k' = k := cr_eq (by omega) (by omega) (d1.symm.trans a1)
    subst ek
    refine ⟨a2.trans d2.symm, n, rfl, rfl, ⟨h12, fun j hj => ?_⟩, fun j hj => ?_⟩
    · obtain ⟨g1, g2, g3, g4, g5, g6⟩ := hI.1.2 j hj
      refine ⟨g1, g2, g3, g4, g5, ?_⟩
      show 0 ≤ (upd lo k' b j).toInt ∧ (upd lo k' b j).toInt ≤ (upd hi k' m j).toInt ∧ (upd hi k' m j).toInt ≤ 20
      by_cases e : j = k'
      · subst e
        rw [pk_us, pk_us]
        exact b1
      · rw [pk_un e, pk_un e]
        exact g6
    · show mt j = fr j ∧ mh j = to j ∧ upd ml k' b j = upd lo k' b j ∧ upd mi k' m j = upd hi k' m j
      obtain ⟨g1, g2, g3, g4⟩ := hI.2 j hj
      refine ⟨g1, g2, ?_⟩
      by_cases e : j = k'
      · subst e
        rw [pk_us, pk_us, pk_us, pk_us]
        exact ⟨rfl, rfl⟩
      · rw [pk_un e, pk_un e, pk_un e, pk_un e]
        exact ⟨g3, g4⟩
theorem cr_law_rev {n : Nat} {fr to lo hi mt mh ml mi : Nat → Int32} {a r1 r2 : Int32} {u1 u2 : cr_U} (hI : cr_LI n fr to lo hi mt mh ml mi) (h1 : cr_Prev n (nI n, fr, to, lo, hi) a r1 u1) (h2 : cr_Prev n (nI n, mt, mh, ml, mi) a r2 u2) : r1 = r2 ∧ ∃ k, cr_LU k u1 u2 := by
  have h12 := hI.1.1
  rcases h1 with ⟨a1, a2, rfl⟩ | ⟨k, hk, a1, a2, rfl⟩ <;> rcases h2 with ⟨d1, d2, rfl⟩ | ⟨k', hk', d1, d2, rfl⟩
  · exact ⟨a2.trans d2.symm, n, rfl, rfl, hI⟩
  · exact absurd (by rw [d1]; exact cr_ia_nI hk' (by omega)) a1
  · exact absurd (by rw [a1]; exact cr_ia_nI hk (by omega)) d1
  · have ek : k' = k := cr_eq (by omega) (by omega) (d1.symm.trans a1)
    subst ek
    refine ⟨a2.trans d2.symm, n, rfl, rfl, ⟨h12, fun j hj => ?_⟩, fun j hj => ?_⟩
    · show upd fr k' (to k') j = nI (upd fr k' (to k') j).toNatClampNeg ∧ upd to k' (fr k') j = nI (upd to k' (fr k') j).toNatClampNeg ∧ (upd fr k' (to k') j).toNatClampNeg < 6 ∧ (upd to k' (fr k') j).toNatClampNeg < 6 ∧ (upd fr k' (to k') j).toNatClampNeg ≠ (upd to k' (fr k') j).toNatClampNeg ∧ _
      by_cases e : j = k'
      · subst e
        rw [pk_us, pk_us]
        obtain ⟨g1, g2, g3, g4, g5, g6⟩ := hI.1.2 j hj
        exact ⟨g2, g1, g4, g3, fun q => g5 q.symm, g6⟩
      · rw [pk_un e, pk_un e]
        exact hI.1.2 j hj
    · show upd mt k' (mh k') j = upd fr k' (to k') j ∧ upd mh k' (mt k') j = upd to k' (fr k') j ∧ ml j = lo j ∧ mi j = hi j
      obtain ⟨g1, g2, g3, g4⟩ := hI.2 j hj
      obtain ⟨p1, p2, -⟩ := hI.2 k' hk'
      by_cases e : j = k'
      · subst e
        rw [pk_us, pk_us, pk_us, pk_us]
        exact ⟨p2, p1, g3, g4⟩
      · rw [pk_un e, pk_un e, pk_un e, pk_un e]
        exact ⟨g1, g2, g3, g4⟩
theorem cr_law_dro {n : Nat} {fr to lo hi mt mh ml mi : Nat → Int32} {r1 r2 : Int32} {u1 u2 : cr_U} (hI : cr_LI n fr to lo hi mt mh ml mi) (h1 : cr_Pdro n (nI n, fr, to, lo, hi) r1 u1) (h2 : cr_Pdro n (nI n, mt, mh, ml, mi) r2 u2) : r1 = r2 ∧ ∃ k, cr_LU k u1 u2 := by
  have h12 := hI.1.1
  rcases h1 with ⟨a1, a2, rfl⟩ | ⟨a1, a2, rfl⟩ <;> rcases h2 with ⟨d1, d2, rfl⟩ | ⟨d1, d2, rfl⟩
  · exact ⟨a2.trans d2.symm, n, rfl, rfl, hI⟩
  · omega
  · omega
  · exact ⟨a2.trans d2.symm, n - 1, rfl, rfl, ⟨by omega, fun j hj => hI.1.2 j (by omega)⟩, fun j hj => hI.2 j (by omega)⟩
theorem cr_law_lack {n : Nat} {fr to lo hi mt mh ml mi : Nat → Int32} {r1 r2 : Int32} (hI : cr_LI n fr to lo hi mt mh ml mi) (h1 : cr_wst (cr_n fr) (cr_n to) (cr_i lo) (cr_i hi) n r1.toInt) (h2 : cr_wst (cr_n mt) (cr_n mh) (cr_i ml) (cr_i mi) n r2.toInt) : r1 = r2 := Int32.toInt_inj.mp (cr_wst_uniq (cr_LI_sm hI) h1 h2)
theorem cr_law_least {n : Nat} {fr to lo hi mt mh ml mi : Nat → Int32} {a r1 r2 : Int32} (hI : cr_LI n fr to lo hi mt mh ml mi) (h1 : (¬ cr_ia n a ∧ r1 = -4) ∨ ∃ k, k < n ∧ a = nI k ∧ cr_PL (cr_n fr) (cr_n to) (cr_i lo) (cr_i hi) n k r1) (h2 : (¬ cr_ia n a ∧ r2 = -4) ∨ ∃ k, k < n ∧ a = nI k ∧ cr_PL (cr_n mt) (cr_n mh) (cr_i ml) (cr_i mi) n k r2) : r1 = r2 := by
  have h12 := hI.1.1
  rcases h1 with ⟨a1, a2⟩ | ⟨k, hk, a1, a2⟩ <;> rcases h2 with ⟨d1, d2⟩ | ⟨k', hk', d1, d2⟩
  · exact a2.trans d2.symm
  · exact absurd (by rw [d1]; exact cr_ia_nI hk' (by omega)) a1
  · exact absurd (by rw [a1]; exact cr_ia_nI hk (by omega)) d1
  · have ek : k' = k := cr_eq (by omega) (by omega) (d1.symm.trans a1)
    subst ek
    exact cr_PL_uniq (cr_LI_sm hI) hk' a2 d2
theorem cr_law_most {n : Nat} {fr to lo hi mt mh ml mi : Nat → Int32} {a r1 r2 : Int32} (hI : cr_LI n fr to lo hi mt mh ml mi) (h1 : (¬ cr_ia n a ∧ r1 = -4) ∨ ∃ k, k < n ∧ a = nI k ∧ cr_PM (cr_n fr) (cr_n to) (cr_i lo) (cr_i hi) n k r1) (h2 : (¬ cr_ia n a ∧ r2 = -4) ∨ ∃ k, k < n ∧ a = nI k ∧ cr_PM (cr_n mt) (cr_n mh) (cr_i ml) (cr_i mi) n k r2) : r1 = r2 := by
  have h12 := hI.1.1
  rcases h1 with ⟨a1, a2⟩ | ⟨k, hk, a1, a2⟩ <;> rcases h2 with ⟨d1, d2⟩ | ⟨k', hk', d1, d2⟩
  · exact a2.trans d2.symm
  · exact absurd (by rw [d1]; exact cr_ia_nI hk' (by omega)) a1
  · exact absurd (by rw [a1]; exact cr_ia_nI hk (by omega)) d1
  · have ek : k' = k := cr_eq (by omega) (by omega) (d1.symm.trans a1)
    subst ek
    exact cr_PM_uniq (cr_LI_sm hI) hk' a2 d2
theorem cr_law_thr {n : Nat} {fr to lo hi mt mh ml mi : Nat → Int32} {a b r1 r2 : Int32} (hI : cr_LI n fr to lo hi mt mh ml mi) (h1 : (¬ cr_gv a b ∧ r1 = -1) ∨ (cr_gv a b ∧ ∃ s t, s < 6 ∧ t < 6 ∧ a = nI s ∧ b = nI t ∧ cr_PT (cr_n fr) (cr_n to) (cr_i lo) (cr_i hi) n s t r1)) (h2 : (¬ cr_gv a b ∧ r2 = -1) ∨ (cr_gv a b ∧ ∃ s t, s < 6 ∧ t < 6 ∧ a = nI s ∧ b = nI t ∧ cr_PT (cr_n mt) (cr_n mh) (cr_i ml) (cr_i mi) n s t r2)) : r1 = r2 := by
  rcases h1 with ⟨a1, a2⟩ | ⟨a0, s, t, hs, ht, a1, a2, a3⟩ <;> rcases h2 with ⟨d1, d2⟩ | ⟨d0, s', t', hs', ht', d1, d2, d3⟩
  · exact a2.trans d2.symm
  · exact absurd d0 a1
  · exact absurd a0 d1
  · have e1 : s' = s := cr_eq (by omega) (by omega) (d1.symm.trans a1)
    have e2 : t' = t := cr_eq (by omega) (by omega) (d2.symm.trans a2)
    subst e1
    subst e2
    exact cr_PT_uniq (cr_LI_sm hI) a3 d3
theorem cr_LI_ag {n : Nat} {fr to lo hi mt mh ml mi mt1 mh1 ml1 mi1 : Nat → Int32} (hI : cr_LI n fr to lo hi mt mh ml mi) (h : cr_Ag n mt mh ml mi mt1 mh1 ml1 mi1) : cr_LI n fr to lo hi mt1 mh1 ml1 mi1 := ⟨hI.1, fun a ha => by
  obtain ⟨h1, h2, h3, h4⟩ := h a ha
  obtain ⟨g1, g2, g3, g4⟩ := hI.2 a ha
  exact ⟨h1.trans g1, h2.trans g2, h3.trans g3, h4.trans g4⟩⟩
theorem cr_LI_0 {fr to lo hi mt mh ml mi : Nat → Int32} : cr_LI 0 fr to lo hi mt mh ml mi := ⟨⟨by decide, fun a ha => absurd ha (Nat.not_lt_zero a)⟩, fun a ha => absurd ha (Nat.not_lt_zero a)⟩
theorem cr_inc4 (i : Nat) : nI i + Int32.ofInt 4 = nI (i + 4) := nI_add i 4
end
section
/-! THE CLAIM OUT OF ONE WALK OF THE LAW'S BODY. Your part is whole_start (and what it stands on); all else here is the same for every law, but numbers. -/
def R_law : String := "CirculationRangeLaw"
def lw_P (b : Addr) (xs : List Int32) (args : Array Value) (s : State) : Prop := args = #[.ref b] ∧ s.IntsAt b xs ∧ xs.length ≤ 256 ∧ (Jvm.Cond.and given_1 narrow_1).before args s = true
def lw_Q (_ : Array Value) (s : State) (o : Outcome) (t : State) : Prop := o = .returned (some (.int 1)) ∧ Framed s o t [] 600000 7290000
def lw_Z (below : List Frame) (a : Array Value) (s : State) : State → Prop := fun t => ∃ o, t.status = .running ∧ Ended t below o ∧ lw_Q a s o t
/-- the law's own end, with 1 on the stack, nothing written that was there before, its room as the claim has it -/
theorem lw_ret {p : Program} {l : Launch} {e : Env} {s : State} {m : MethodId} {below : List Frame} {meth : Method} {c : Code} {b : Nat} (hx : p.tables.exec = Jvm.exec) (hb : c.code = code) (hr : meth.sig.returnType = ret) (hlocks : meth.locks = false) {pc : Nat} {H : Heap} {ls : Array Slot} (hdg : decode code pc = .ok (.ireturn, 1)) : W p l e room_1 s m #[Value.ref b] below meth c H [] 600000 7290000 (lw_Z below #[Value.ref b] s) (F0 m pc ls [.int 1]) := by
  intro T hT X
  obtain ⟨fs, hret, hrun, hended, hW, hframe⟩ := X.leave (v := some (.int 1)) (hlocks := hlocks) (fun h => by rw [hr] at h; cases h)
  have hmeth' : T.vm.method? m = some meth := X.method'
  refine ⟨T.setFrames fs, ?_, .returned (some (.int 1)), hrun, hended, rfl, ⟨_, rfl⟩, hW, hframe⟩
  jvm_step X.here [X.here.top, hx, hb, hdg, hmeth', hr, ret, narrow_b1]
  (try refine ⟨rfl, ?_⟩); (try refine ⟨rfl, ?_⟩)
  first | (intro acts; rw [hret _ acts rfl rfl rfl]) | rw [hret _ _ rfl rfl rfl]
  exact Steps.refl _
/-- what holds at the law's entry: the machine, the code, the tables' words (any of lw_tbl by 'hts w (by decide +kernel)'), the script of L ints xs at the cell b, what the Statement gives of the start (any of its parts by flat_of_before) -/
def lw_At (p : Program) (s : State) (m : MethodId) (meth : Method) (c : Code) (b L : Nat) (xs : Nat → Int32) : Prop :=
  p.tables.exec = Jvm.exec ∧ c.code = code ∧ meth.sig.returnType = ret ∧ c.maxLocals = 4 ∧ s.vm.findClass R_law = some m.cls ∧ (∀ w ∈ lw_tbl, w.before #[Value.ref b] s = true) ∧ va_X b L xs s s.heap ∧ b < s.heap.size ∧ meth.locks = false ∧ (Jvm.Cond.and given_1 narrow_1).before #[Value.ref b] s = true
end
section
/-! THE LAW: its loop -/
set_option maxHeartbeats 4000000 in
set_option maxRecDepth 100000 in
/-- at the head of the loop, i ints read: the class and the reference hold the same arcs -/
theorem law_loop {p : Program} {l : Launch} {e : Env} {s : State} {m : MethodId} {below : List Frame} {meth : Method} {c : Code} {D : va_G} {d d2 : ClassId} {h g : Nat → Nat} {b L : Nat} {xs : Nat → Int32} (hL : L ≤ 256) (C0 : lw_At p s m meth c b L xs) (hK1 : va_K D vwCl [(d, .int)] s) (hK2 : va_K D vwCl [(d2, .int)] s) :
    ∀ (k i n : Nat) (nd sn : Int32) (fr to lo hi ta he ro fl bY qu mt mh ml mi : Nat → Int32) (H : Heap) (locs : List Loc) (ls : Array Slot), i ≤ L → L + 1 ≤ i + k → cr_LI n fr to lo hi mt mh ml mi → va_P D vwCl (xw d h (nI n) nd sn fr to lo hi ta he ro fl bY qu ++ mw d2 g (nI n) mt mh ml mi) H → va_D (fun q : Nat => s.heap.size ≤ q) (xw d h (nI n) nd sn fr to lo hi ta he ro fl bY qu ++ mw d2 g (nI n) mt mh ml mi) → va_S (fun q : Nat => s.heap.size ≤ q) s.heap H locs → lv_has ls 4 [(3, .int (nI i)), (2, .ref (g 0)), (1, .ref (h 0)), (0, .ref b)] → W p l e room_1 s m #[Value.ref b] below meth c H locs 16 234 (lw_Z below #[Value.ref b] s) (F0 m 18 ls []) := by
  obtain ⟨hx, hb, hr, hml, hown, hts0, hX, hbl, hlocks, hgv⟩ := C0
  have hts : ∀ w ∈ lw_all, w.before #[Value.ref b] s = true := fun w h => hts0 w (lw_all_tbl h)
  have hA : ∀ q : Nat, s.heap.size ≤ q → (fun q : Nat => s.heap.size ≤ q) q := fun _ h => h
  have hbA : ¬ (fun q : Nat => s.heap.size ≤ q) b := Nat.not_le.mpr hbl
  intro k
  induction k with
  | zero =>
    intro i n nd sn fr to lo hi ta he ro fl bY qu mt mh ml mi H locs ls h1 h2
    exfalso
    omega
  | succ k ih =>
    intro i n nd sn fr to lo hi ta he ro fl bY qu mt mh ml mi H locs ls h1 h2 hI hP hD hS hl
    have hAr := hI.1
    have hAm := cr_LI_arcs hI
    have hn12 := hI.1.1
    refine lv_iload_n hx hb dL_law_18 rfl (lv_at hl 0 rfl) ?_
    refine lv_aload_n hx hb dL_law_19 rfl (lv_at hl 3 rfl) ?_
    refine va_slen hx hb hX hbl hbA hS dL_law_20 ?_
    refine lv_iconst (v := (nI 4)) hx hb dL_law_21 (by decide) ?_
    refine lv_isub hx hb dL_law_22 ?_
    refine lv_topi (fun lim elim => ?_)
    have elim : lim = nI L - nI 4 := elim
    have hlim : lim.toInt = (L : Int) - 4 := by
      have e1 : (nI L).toInt = (L : Int) := nI_toInt (by omega)
      have e2 : (nI 4).toInt = 4 := rfl
      rw [elim, fb_subI (by omega) (by omega), e1, e2]
    refine lv_icmp_gt (tgt := 351) hx hb dL_law_23 (by decide) (fun c1 => ?_) (fun c1 => ?_)
    · refine lv_iconst (v := (nI 1)) hx hb dL_law_351 (by decide) ?_
      refine va_forget (fun q hq => hS.2.2 q hq) ?_
      refine W.widen (k := 600000) (n := 7290000) (Nat.le_of_ble_eq_true rfl) (Nat.le_of_ble_eq_true rfl) ?_
      exact lw_ret hx hb hr hlocks dL_law_352
    · have hi4 : i + 4 ≤ L := by
        have e1 : (nI i).toInt = (i : Int) := nI_toInt (by omega)
        rw [Int32.lt_iff_toInt_lt, e1, hlim] at c1
        omega
      refine lv_aload_n hx hb dL_law_26 rfl (lv_at hl 3 rfl) ?_
      refine lv_iload_n hx hb dL_law_27 rfl (lv_at hl 0 rfl) ?_
      refine va_sld hx hb hX hbl hbA hS (vp_in_nI (show i < L by omega) (by omega)) dL_law_28 ?_
      refine lv_topi (fun y9 ey9 => ?_)
      obtain rfl : y9 = xs i := ey9.trans (congrArg xs (nI_clamp (show i < 2 ^ 31 by omega)))
      refine lv_bipush (v := (nI 15)) hx hb dL_law_29 (by decide) ?_
      refine lv_iand hx hb dL_law_31 ?_
      obtain ⟨j, hj, ej⟩ := pk_andE (xs i) (m := nI 15) 4 (by decide)
      refine lv_topi (fun y9 ey9 => ?_)
      obtain rfl : y9 = nI j := ey9.trans (ej)
      have hj2 : j = 0 ∨ j = 1 ∨ j = 2 ∨ j = 3 ∨ j = 4 ∨ j = 5 ∨ j = 6 ∨ j = 7 ∨ j = 8 ∨ j = 9 ∨ j = 10 ∨ 11 ≤ j := by omega
      rcases hj2 with rfl | rfl | rfl | rfl | rfl | rfl | rfl | rfl | rfl | rfl | rfl | hj2
      · refine lv_tableIn (tgt := 92) (off := 60) hx hb dL_law_32 (by decide) (by decide) (by decide) (by decide) ?_
        refine lv_aload_n hx hb dL_law_92 rfl (lv_at hl 2 rfl) ?_
        refine lv_aload_n hx hb dL_law_93 rfl (lv_at hl 3 rfl) ?_
        refine lv_iload_n hx hb dL_law_94 rfl (lv_at hl 0 rfl) ?_
        refine lv_iconst (v := (nI 1)) hx hb dL_law_95 (by decide) ?_
        refine lv_iadd hx hb dL_law_96 ?_
        refine lv_topi (fun y9 ey9 => ?_)
        obtain rfl : y9 = nI (i + 1) := ey9.trans (nI_add i 1)
        refine va_sld hx hb hX hbl hbA hS (vp_in_nI (show (i + 1) < L by omega) (by omega)) dL_law_97 ?_
        refine lv_topi (fun y9 ey9 => ?_)
        obtain rfl : y9 = xs (i + 1) := ey9.trans (congrArg xs (nI_clamp (show (i + 1) < 2 ^ 31 by omega)))
        refine lv_aload_n hx hb dL_law_98 rfl (lv_at hl 3 rfl) ?_
        refine lv_iload_n hx hb dL_law_99 rfl (lv_at hl 0 rfl) ?_
        refine lv_iconst (v := (nI 2)) hx hb dL_law_100 (by decide) ?_
        refine lv_iadd hx hb dL_law_101 ?_
        refine lv_topi (fun y9 ey9 => ?_)
        obtain rfl : y9 = nI (i + 2) := ey9.trans (nI_add i 2)
        refine va_sld hx hb hX hbl hbA hS (vp_in_nI (show (i + 2) < L by omega) (by omega)) dL_law_102 ?_
        refine lv_topi (fun y9 ey9 => ?_)
        obtain rfl : y9 = xs (i + 2) := ey9.trans (congrArg xs (nI_clamp (show (i + 2) < 2 ^ 31 by omega)))
        refine lv_aload_n hx hb dL_law_103 rfl (lv_at hl 3 rfl) ?_
        refine lv_iload_n hx hb dL_law_104 rfl (lv_at hl 0 rfl) ?_
        refine lv_iconst (v := (nI 3)) hx hb dL_law_105 (by decide) ?_
        refine lv_iadd hx hb dL_law_106 ?_
        refine lv_topi (fun y9 ey9 => ?_)
        obtain rfl : y9 = nI (i + 3) := ey9.trans (nI_add i 3)
        refine va_sld hx hb hX hbl hbA hS (vp_in_nI (show (i + 3) < L by omega) (by omega)) dL_law_107 ?_
        refine lv_topi (fun y9 ey9 => ?_)
        obtain rfl : y9 = xs (i + 3) := ey9.trans (congrArg xs (nI_clamp (show (i + 3) < 2 ^ 31 by omega)))
        refine cr_parti (As := [.int (xs (i + 1)), .int (xs (i + 2)), .int (xs (i + 3))]) (rest := []) (wr := mw d2 g (nI n) mt mh ml mi) ⟨hx, hb, hml, hown, hts⟩ (metX0_arc l D d h H.size (nI n) nd sn fr to lo hi ta he ro fl bY qu n rfl hn12 (xs (i + 1)) (xs (i + 2)) (xs (i + 3))) (cwV 3 hts (lw_V q67 q68 q69 q16 q70) rfl rfl rfl (by decide +kernel) ⟨Nat.le_of_ble_eq_true rfl, Nat.le_of_ble_eq_true rfl⟩) hK1 hP hD hS hA [0, 1, 2, 3, 4, 5, 6, 7, 8, 9, 10] [11, 12, 13, 14, 15] rfl rfl (by decide) (by decide) (by decide) (hP.sub [0, 1, 2, 3, 4, 5, 6, 7, 8, 9, 10] rfl) (ci := 0) rfl rfl rfl hl.1 rfl (Nat.le_of_ble_eq_true rfl) dL_law_108 ⟨Nat.le_of_ble_eq_true rfl, Nat.le_of_ble_eq_true rfl⟩ (fun r1 u1 H locs hw1 hP hD hS => ?_)
        have hP : va_P D vwCl (mw d2 g (nI n) mt mh ml mi ++ xw d h u1.1 nd sn u1.2.1 u1.2.2.1 u1.2.2.2.1 u1.2.2.2.2 ta he ro fl bY qu) H := hP
        have hD : va_D (fun q : Nat => s.heap.size ≤ q) (mw d2 g (nI n) mt mh ml mi ++ xw d h u1.1 nd sn u1.2.1 u1.2.2.1 u1.2.2.2.1 u1.2.2.2.2 ta he ro fl bY qu) := hD
        refine lv_aload_n hx hb dL_law_111 rfl (lv_at hl 1 rfl) ?_
        refine lv_aload_n hx hb dL_law_112 rfl (lv_at hl 3 rfl) ?_
        refine lv_iload_n hx hb dL_law_113 rfl (lv_at hl 0 rfl) ?_
        refine lv_iconst (v := (nI 1)) hx hb dL_law_114 (by decide) ?_
        refine lv_iadd hx hb dL_law_115 ?_
        refine lv_topi (fun y9 ey9 => ?_)
        obtain rfl : y9 = nI (i + 1) := ey9.trans (nI_add i 1)
        refine va_sld hx hb hX hbl hbA hS (vp_in_nI (show (i + 1) < L by omega) (by omega)) dL_law_116 ?_
        refine lv_topi (fun y9 ey9 => ?_)
        obtain rfl : y9 = xs (i + 1) := ey9.trans (congrArg xs (nI_clamp (show (i + 1) < 2 ^ 31 by omega)))
        refine lv_aload_n hx hb dL_law_117 rfl (lv_at hl 3 rfl) ?_
        refine lv_iload_n hx hb dL_law_118 rfl (lv_at hl 0 rfl) ?_
        refine lv_iconst (v := (nI 2)) hx hb dL_law_119 (by decide) ?_
        refine lv_iadd hx hb dL_law_120 ?_
        refine lv_topi (fun y9 ey9 => ?_)
        obtain rfl : y9 = nI (i + 2) := ey9.trans (nI_add i 2)
        refine va_sld hx hb hX hbl hbA hS (vp_in_nI (show (i + 2) < L by omega) (by omega)) dL_law_121 ?_
        refine lv_topi (fun y9 ey9 => ?_)
        obtain rfl : y9 = xs (i + 2) := ey9.trans (congrArg xs (nI_clamp (show (i + 2) < 2 ^ 31 by omega)))
        refine lv_aload_n hx hb dL_law_122 rfl (lv_at hl 3 rfl) ?_
        refine lv_iload_n hx hb dL_law_123 rfl (lv_at hl 0 rfl) ?_
        refine lv_iconst (v := (nI 3)) hx hb dL_law_124 (by decide) ?_
        refine lv_iadd hx hb dL_law_125 ?_
        refine lv_topi (fun y9 ey9 => ?_)
        obtain rfl : y9 = nI (i + 3) := ey9.trans (nI_add i 3)
        refine va_sld hx hb hX hbl hbA hS (vp_in_nI (show (i + 3) < L by omega) (by omega)) dL_law_126 ?_
        refine lv_topi (fun y9 ey9 => ?_)
        obtain rfl : y9 = xs (i + 3) := ey9.trans (congrArg xs (nI_clamp (show (i + 3) < 2 ^ 31 by omega)))
        refine cr_parti (As := [.int (xs (i + 1)), .int (xs (i + 2)), .int (xs (i + 3))]) (rest := [.int r1]) (wr := xw d h u1.1 nd sn u1.2.1 u1.2.2.1 u1.2.2.2.1 u1.2.2.2.2 ta he ro fl bY qu) ⟨hx, hb, hml, hown, hts⟩ (metX1_arc l D d2 g H.size n mt mh ml mi hn12 (xs (i + 1)) (xs (i + 2)) (xs (i + 3))) (cwV 3 hts (lw_V q172 q173 q174 q17 q175) rfl rfl rfl (by decide +kernel) ⟨Nat.le_of_ble_eq_true rfl, Nat.le_of_ble_eq_true rfl⟩) hK2 hP hD hS hA [0, 1, 2, 3, 4] [5, 6, 7, 8, 9, 10, 11, 12, 13, 14, 15] rfl rfl (by decide) (by decide) (by decide) (hP.sub [0, 1, 2, 3, 4] rfl) (ci := 1) rfl rfl rfl hl.1 rfl (Nat.le_of_ble_eq_true rfl) dL_law_127 ⟨Nat.le_of_ble_eq_true rfl, Nat.le_of_ble_eq_true rfl⟩ (fun r2 u2 H locs hw2 hP hD hS => ?_)
        obtain ⟨er, n1, e1, e2, hI1⟩ := cr_law_arc hI hw1 hw2
        have hP : va_P D vwCl (xw d h u1.1 nd sn u1.2.1 u1.2.2.1 u1.2.2.2.1 u1.2.2.2.2 ta he ro fl bY qu ++ mw d2 g u2.1 u2.2.1 u2.2.2.1 u2.2.2.2.1 u2.2.2.2.2) H := hP
        have hD : va_D (fun q : Nat => s.heap.size ≤ q) (xw d h u1.1 nd sn u1.2.1 u1.2.2.1 u1.2.2.2.1 u1.2.2.2.2 ta he ro fl bY qu ++ mw d2 g u2.1 u2.2.1 u2.2.2.1 u2.2.2.2.1 u2.2.2.2.2) := hD
        rw [e1, e2] at hP hD
        refine lv_icmp_eq (tgt := 345) hx hb dL_law_130 (by decide) (fun c2 => ?_) (fun c2 => ?_)
        · refine lv_iinc (v := (nI (i + 4))) (lv' := [(3, .int (nI (i + 4))), (2, .ref (g 0)), (1, .ref (h 0)), (0, .ref b)]) hx hb dL_law_345 hl (k := 0) rfl (cr_inc4 i) (by decide) rfl (fun ls hl => ?_)
          refine lv_goto (tgt := 18) hx hb dL_law_348 (by decide) ?_
          exact ih (i + 4) n1 nd sn u1.2.1 u1.2.2.1 u1.2.2.2.1 u1.2.2.2.2 ta he ro fl bY qu u2.2.1 u2.2.2.1 u2.2.2.2.1 u2.2.2.2.2 H locs ls (by omega) (by omega) hI1 hP hD hS (lv_sub hl [0, 1, 2, 3] rfl)
        · exact absurd (er) c2
      · refine lv_tableIn (tgt := 135) (off := 103) hx hb dL_law_32 (by decide) (by decide) (by decide) (by decide) ?_
        refine lv_aload_n hx hb dL_law_135 rfl (lv_at hl 2 rfl) ?_
        refine lv_aload_n hx hb dL_law_136 rfl (lv_at hl 3 rfl) ?_
        refine lv_iload_n hx hb dL_law_137 rfl (lv_at hl 0 rfl) ?_
        refine lv_iconst (v := (nI 1)) hx hb dL_law_138 (by decide) ?_
        refine lv_iadd hx hb dL_law_139 ?_
        refine lv_topi (fun y9 ey9 => ?_)
        obtain rfl : y9 = nI (i + 1) := ey9.trans (nI_add i 1)
        refine va_sld hx hb hX hbl hbA hS (vp_in_nI (show (i + 1) < L by omega) (by omega)) dL_law_140 ?_
        refine lv_topi (fun y9 ey9 => ?_)
        obtain rfl : y9 = xs (i + 1) := ey9.trans (congrArg xs (nI_clamp (show (i + 1) < 2 ^ 31 by omega)))
        refine lv_aload_n hx hb dL_law_141 rfl (lv_at hl 3 rfl) ?_
        refine lv_iload_n hx hb dL_law_142 rfl (lv_at hl 0 rfl) ?_
        refine lv_iconst (v := (nI 2)) hx hb dL_law_143 (by decide) ?_
        refine lv_iadd hx hb dL_law_144 ?_
        refine lv_topi (fun y9 ey9 => ?_)
        obtain rfl : y9 = nI (i + 2) := ey9.trans (nI_add i 2)
        refine va_sld hx hb hX hbl hbA hS (vp_in_nI (show (i + 2) < L by omega) (by omega)) dL_law_145 ?_
        refine lv_topi (fun y9 ey9 => ?_)
        obtain rfl : y9 = xs (i + 2) := ey9.trans (congrArg xs (nI_clamp (show (i + 2) < 2 ^ 31 by omega)))
        refine lv_aload_n hx hb dL_law_146 rfl (lv_at hl 3 rfl) ?_
        refine lv_iload_n hx hb dL_law_147 rfl (lv_at hl 0 rfl) ?_
        refine lv_iconst (v := (nI 3)) hx hb dL_law_148 (by decide) ?_
        refine lv_iadd hx hb dL_law_149 ?_
        refine lv_topi (fun y9 ey9 => ?_)
        obtain rfl : y9 = nI (i + 3) := ey9.trans (nI_add i 3)
        refine va_sld hx hb hX hbl hbA hS (vp_in_nI (show (i + 3) < L by omega) (by omega)) dL_law_150 ?_
        refine lv_topi (fun y9 ey9 => ?_)
        obtain rfl : y9 = xs (i + 3) := ey9.trans (congrArg xs (nI_clamp (show (i + 3) < 2 ^ 31 by omega)))
        refine cr_parti (As := [.int (xs (i + 1)), .int (xs (i + 2)), .int (xs (i + 3))]) (rest := []) (wr := mw d2 g (nI n) mt mh ml mi) ⟨hx, hb, hml, hown, hts⟩ (metX0_bounds l D d h H.size (nI n) nd sn fr to lo hi ta he ro fl bY qu n rfl hn12 (xs (i + 1)) (xs (i + 2)) (xs (i + 3))) (cwV 3 hts (lw_V q74 q75 q76 q16 q77) rfl rfl rfl (by decide +kernel) ⟨Nat.le_of_ble_eq_true rfl, Nat.le_of_ble_eq_true rfl⟩) hK1 hP hD hS hA [0, 1, 2, 3, 4, 5, 6, 7, 8, 9, 10] [11, 12, 13, 14, 15] rfl rfl (by decide) (by decide) (by decide) (hP.sub [0, 1, 2, 3, 4, 5, 6, 7, 8, 9, 10] rfl) (ci := 0) rfl rfl rfl hl.1 rfl (Nat.le_of_ble_eq_true rfl) dL_law_151 ⟨Nat.le_of_ble_eq_true rfl, Nat.le_of_ble_eq_true rfl⟩ (fun r1 u1 H locs hw1 hP hD hS => ?_)
        have hP : va_P D vwCl (mw d2 g (nI n) mt mh ml mi ++ xw d h u1.1 nd sn u1.2.1 u1.2.2.1 u1.2.2.2.1 u1.2.2.2.2 ta he ro fl bY qu) H := hP
        have hD : va_D (fun q : Nat => s.heap.size ≤ q) (mw d2 g (nI n) mt mh ml mi ++ xw d h u1.1 nd sn u1.2.1 u1.2.2.1 u1.2.2.2.1 u1.2.2.2.2 ta he ro fl bY qu) := hD
        refine lv_aload_n hx hb dL_law_154 rfl (lv_at hl 1 rfl) ?_
        refine lv_aload_n hx hb dL_law_155 rfl (lv_at hl 3 rfl) ?_
        refine lv_iload_n hx hb dL_law_156 rfl (lv_at hl 0 rfl) ?_
        refine lv_iconst (v := (nI 1)) hx hb dL_law_157 (by decide) ?_
        refine lv_iadd hx hb dL_law_158 ?_
        refine lv_topi (fun y9 ey9 => ?_)
        obtain rfl : y9 = nI (i + 1) := ey9.trans (nI_add i 1)
        refine va_sld hx hb hX hbl hbA hS (vp_in_nI (show (i + 1) < L by omega) (by omega)) dL_law_159 ?_
        refine lv_topi (fun y9 ey9 => ?_)
        obtain rfl : y9 = xs (i + 1) := ey9.trans (congrArg xs (nI_clamp (show (i + 1) < 2 ^ 31 by omega)))
        refine lv_aload_n hx hb dL_law_160 rfl (lv_at hl 3 rfl) ?_
        refine lv_iload_n hx hb dL_law_161 rfl (lv_at hl 0 rfl) ?_
        refine lv_iconst (v := (nI 2)) hx hb dL_law_162 (by decide) ?_
        refine lv_iadd hx hb dL_law_163 ?_
        refine lv_topi (fun y9 ey9 => ?_)
        obtain rfl : y9 = nI (i + 2) := ey9.trans (nI_add i 2)
        refine va_sld hx hb hX hbl hbA hS (vp_in_nI (show (i + 2) < L by omega) (by omega)) dL_law_164 ?_
        refine lv_topi (fun y9 ey9 => ?_)
        obtain rfl : y9 = xs (i + 2) := ey9.trans (congrArg xs (nI_clamp (show (i + 2) < 2 ^ 31 by omega)))
        refine lv_aload_n hx hb dL_law_165 rfl (lv_at hl 3 rfl) ?_
        refine lv_iload_n hx hb dL_law_166 rfl (lv_at hl 0 rfl) ?_
        refine lv_iconst (v := (nI 3)) hx hb dL_law_167 (by decide) ?_
        refine lv_iadd hx hb dL_law_168 ?_
        refine lv_topi (fun y9 ey9 => ?_)
        obtain rfl : y9 = nI (i + 3) := ey9.trans (nI_add i 3)
        refine va_sld hx hb hX hbl hbA hS (vp_in_nI (show (i + 3) < L by omega) (by omega)) dL_law_169 ?_
        refine lv_topi (fun y9 ey9 => ?_)
        obtain rfl : y9 = xs (i + 3) := ey9.trans (congrArg xs (nI_clamp (show (i + 3) < 2 ^ 31 by omega)))
        refine cr_parti (As := [.int (xs (i + 1)), .int (xs (i + 2)), .int (xs (i + 3))]) (rest := [.int r1]) (wr := xw d h u1.1 nd sn u1.2.1 u1.2.2.1 u1.2.2.2.1 u1.2.2.2.2 ta he ro fl bY qu) ⟨hx, hb, hml, hown, hts⟩ (metX1_bounds l D d2 g H.size n mt mh ml mi hn12 (xs (i + 1)) (xs (i + 2)) (xs (i + 3))) (cwV 3 hts (lw_V q184 q185 q186 q17 q187) rfl rfl rfl (by decide +kernel) ⟨Nat.le_of_ble_eq_true rfl, Nat.le_of_ble_eq_true rfl⟩) hK2 hP hD hS hA [0, 1, 2, 3, 4] [5, 6, 7, 8, 9, 10, 11, 12, 13, 14, 15] rfl rfl (by decide) (by decide) (by decide) (hP.sub [0, 1, 2, 3, 4] rfl) (ci := 1) rfl rfl rfl hl.1 rfl (Nat.le_of_ble_eq_true rfl) dL_law_170 ⟨Nat.le_of_ble_eq_true rfl, Nat.le_of_ble_eq_true rfl⟩ (fun r2 u2 H locs hw2 hP hD hS => ?_)
        obtain ⟨er, n1, e1, e2, hI1⟩ := cr_law_bou hI hw1 hw2
        have hP : va_P D vwCl (xw d h u1.1 nd sn u1.2.1 u1.2.2.1 u1.2.2.2.1 u1.2.2.2.2 ta he ro fl bY qu ++ mw d2 g u2.1 u2.2.1 u2.2.2.1 u2.2.2.2.1 u2.2.2.2.2) H := hP
        have hD : va_D (fun q : Nat => s.heap.size ≤ q) (xw d h u1.1 nd sn u1.2.1 u1.2.2.1 u1.2.2.2.1 u1.2.2.2.2 ta he ro fl bY qu ++ mw d2 g u2.1 u2.2.1 u2.2.2.1 u2.2.2.2.1 u2.2.2.2.2) := hD
        rw [e1, e2] at hP hD
        refine lv_icmp_eq (tgt := 345) hx hb dL_law_173 (by decide) (fun c2 => ?_) (fun c2 => ?_)
        · refine lv_iinc (v := (nI (i + 4))) (lv' := [(3, .int (nI (i + 4))), (2, .ref (g 0)), (1, .ref (h 0)), (0, .ref b)]) hx hb dL_law_345 hl (k := 0) rfl (cr_inc4 i) (by decide) rfl (fun ls hl => ?_)
          refine lv_goto (tgt := 18) hx hb dL_law_348 (by decide) ?_
          exact ih (i + 4) n1 nd sn u1.2.1 u1.2.2.1 u1.2.2.2.1 u1.2.2.2.2 ta he ro fl bY qu u2.2.1 u2.2.2.1 u2.2.2.2.1 u2.2.2.2.2 H locs ls (by omega) (by omega) hI1 hP hD hS (lv_sub hl [0, 1, 2, 3] rfl)
        · exact absurd (er) c2
      · refine lv_tableIn (tgt := 178) (off := 146) hx hb dL_law_32 (by decide) (by decide) (by decide) (by decide) ?_
        refine lv_aload_n hx hb dL_law_178 rfl (lv_at hl 2 rfl) ?_
        refine lv_aload_n hx hb dL_law_179 rfl (lv_at hl 3 rfl) ?_
        refine lv_iload_n hx hb dL_law_180 rfl (lv_at hl 0 rfl) ?_
        refine lv_iconst (v := (nI 1)) hx hb dL_law_181 (by decide) ?_
        refine lv_iadd hx hb dL_law_182 ?_
        refine lv_topi (fun y9 ey9 => ?_)
        obtain rfl : y9 = nI (i + 1) := ey9.trans (nI_add i 1)
        refine va_sld hx hb hX hbl hbA hS (vp_in_nI (show (i + 1) < L by omega) (by omega)) dL_law_183 ?_
        refine lv_topi (fun y9 ey9 => ?_)
        obtain rfl : y9 = xs (i + 1) := ey9.trans (congrArg xs (nI_clamp (show (i + 1) < 2 ^ 31 by omega)))
        refine cr_parti (As := [.int (xs (i + 1))]) (rest := []) (wr := mw d2 g (nI n) mt mh ml mi) ⟨hx, hb, hml, hown, hts⟩ (metX0_reverse l D d h H.size (nI n) nd sn fr to lo hi ta he ro fl bY qu n rfl hn12 (xs (i + 1))) (cwV 1 hts (lw_V q82 q83 q84 q16 q85) rfl rfl rfl (by decide +kernel) ⟨Nat.le_of_ble_eq_true rfl, Nat.le_of_ble_eq_true rfl⟩) hK1 hP hD hS hA [0, 1, 2, 3, 4, 5, 6, 7, 8, 9, 10] [11, 12, 13, 14, 15] rfl rfl (by decide) (by decide) (by decide) (hP.sub [0, 1, 2, 3, 4, 5, 6, 7, 8, 9, 10] rfl) (ci := 0) rfl rfl rfl hl.1 rfl (Nat.le_of_ble_eq_true rfl) dL_law_184 ⟨Nat.le_of_ble_eq_true rfl, Nat.le_of_ble_eq_true rfl⟩ (fun r1 u1 H locs hw1 hP hD hS => ?_)
        have hP : va_P D vwCl (mw d2 g (nI n) mt mh ml mi ++ xw d h u1.1 nd sn u1.2.1 u1.2.2.1 u1.2.2.2.1 u1.2.2.2.2 ta he ro fl bY qu) H := hP
        have hD : va_D (fun q : Nat => s.heap.size ≤ q) (mw d2 g (nI n) mt mh ml mi ++ xw d h u1.1 nd sn u1.2.1 u1.2.2.1 u1.2.2.2.1 u1.2.2.2.2 ta he ro fl bY qu) := hD
        refine lv_aload_n hx hb dL_law_187 rfl (lv_at hl 1 rfl) ?_
        refine lv_aload_n hx hb dL_law_188 rfl (lv_at hl 3 rfl) ?_
        refine lv_iload_n hx hb dL_law_189 rfl (lv_at hl 0 rfl) ?_
        refine lv_iconst (v := (nI 1)) hx hb dL_law_190 (by decide) ?_
        refine lv_iadd hx hb dL_law_191 ?_
        refine lv_topi (fun y9 ey9 => ?_)
        obtain rfl : y9 = nI (i + 1) := ey9.trans (nI_add i 1)
        refine va_sld hx hb hX hbl hbA hS (vp_in_nI (show (i + 1) < L by omega) (by omega)) dL_law_192 ?_
        refine lv_topi (fun y9 ey9 => ?_)
        obtain rfl : y9 = xs (i + 1) := ey9.trans (congrArg xs (nI_clamp (show (i + 1) < 2 ^ 31 by omega)))
        refine cr_parti (As := [.int (xs (i + 1))]) (rest := [.int r1]) (wr := xw d h u1.1 nd sn u1.2.1 u1.2.2.1 u1.2.2.2.1 u1.2.2.2.2 ta he ro fl bY qu) ⟨hx, hb, hml, hown, hts⟩ (metX1_reverse l D d2 g H.size n mt mh ml mi hn12 (xs (i + 1))) (cwV 1 hts (lw_V q192 q193 q194 q17 q195) rfl rfl rfl (by decide +kernel) ⟨Nat.le_of_ble_eq_true rfl, Nat.le_of_ble_eq_true rfl⟩) hK2 hP hD hS hA [0, 1, 2, 3, 4] [5, 6, 7, 8, 9, 10, 11, 12, 13, 14, 15] rfl rfl (by decide) (by decide) (by decide) (hP.sub [0, 1, 2, 3, 4] rfl) (ci := 1) rfl rfl rfl hl.1 rfl (Nat.le_of_ble_eq_true rfl) dL_law_193 ⟨Nat.le_of_ble_eq_true rfl, Nat.le_of_ble_eq_true rfl⟩ (fun r2 u2 H locs hw2 hP hD hS => ?_)
        obtain ⟨er, n1, e1, e2, hI1⟩ := cr_law_rev hI hw1 hw2
        have hP : va_P D vwCl (xw d h u1.1 nd sn u1.2.1 u1.2.2.1 u1.2.2.2.1 u1.2.2.2.2 ta he ro fl bY qu ++ mw d2 g u2.1 u2.2.1 u2.2.2.1 u2.2.2.2.1 u2.2.2.2.2) H := hP
        have hD : va_D (fun q : Nat => s.heap.size ≤ q) (xw d h u1.1 nd sn u1.2.1 u1.2.2.1 u1.2.2.2.1 u1.2.2.2.2 ta he ro fl bY qu ++ mw d2 g u2.1 u2.2.1 u2.2.2.1 u2.2.2.2.1 u2.2.2.2.2) := hD
        rw [e1, e2] at hP hD
        refine lv_icmp_eq (tgt := 345) hx hb dL_law_196 (by decide) (fun c2 => ?_) (fun c2 => ?_)
        · refine lv_iinc (v := (nI (i + 4))) (lv' := [(3, .int (nI (i + 4))), (2, .ref (g 0)), (1, .ref (h 0)), (0, .ref b)]) hx hb dL_law_345 hl (k := 0) rfl (cr_inc4 i) (by decide) rfl (fun ls hl => ?_)
          refine lv_goto (tgt := 18) hx hb dL_law_348 (by decide) ?_
          exact ih (i + 4) n1 nd sn u1.2.1 u1.2.2.1 u1.2.2.2.1 u1.2.2.2.2 ta he ro fl bY qu u2.2.1 u2.2.2.1 u2.2.2.2.1 u2.2.2.2.2 H locs ls (by omega) (by omega) hI1 hP hD hS (lv_sub hl [0, 1, 2, 3] rfl)
        · exact absurd (er) c2
      · refine lv_tableIn (tgt := 201) (off := 169) hx hb dL_law_32 (by decide) (by decide) (by decide) (by decide) ?_
        refine lv_aload_n hx hb dL_law_201 rfl (lv_at hl 2 rfl) ?_
        refine cr_parti (As := []) (rest := []) (wr := mw d2 g (nI n) mt mh ml mi) ⟨hx, hb, hml, hown, hts⟩ (metX0_dropLast l D d h H.size (nI n) nd sn fr to lo hi ta he ro fl bY qu n rfl hn12) (cwV 0 hts (lw_V q86 q87 q88 q16 q89) rfl rfl rfl (by decide +kernel) ⟨Nat.le_of_ble_eq_true rfl, Nat.le_of_ble_eq_true rfl⟩) hK1 hP hD hS hA [0, 1, 2, 3, 4, 5, 6, 7, 8, 9, 10] [11, 12, 13, 14, 15] rfl rfl (by decide) (by decide) (by decide) (hP.sub [0, 1, 2, 3, 4, 5, 6, 7, 8, 9, 10] rfl) (ci := 0) rfl rfl rfl hl.1 rfl (Nat.le_of_ble_eq_true rfl) dL_law_202 ⟨Nat.le_of_ble_eq_true rfl, Nat.le_of_ble_eq_true rfl⟩ (fun r1 u1 H locs hw1 hP hD hS => ?_)
        have hP : va_P D vwCl (mw d2 g (nI n) mt mh ml mi ++ xw d h u1.1 nd sn u1.2.1 u1.2.2.1 u1.2.2.2.1 u1.2.2.2.2 ta he ro fl bY qu) H := hP
        have hD : va_D (fun q : Nat => s.heap.size ≤ q) (mw d2 g (nI n) mt mh ml mi ++ xw d h u1.1 nd sn u1.2.1 u1.2.2.1 u1.2.2.2.1 u1.2.2.2.2 ta he ro fl bY qu) := hD
        refine lv_aload_n hx hb dL_law_205 rfl (lv_at hl 1 rfl) ?_
        refine cr_parti (As := []) (rest := [.int r1]) (wr := xw d h u1.1 nd sn u1.2.1 u1.2.2.1 u1.2.2.2.1 u1.2.2.2.2 ta he ro fl bY qu) ⟨hx, hb, hml, hown, hts⟩ (metX1_dropLast l D d2 g H.size n mt mh ml mi hn12) (cwV 0 hts (lw_V q196 q197 q198 q17 q199) rfl rfl rfl (by decide +kernel) ⟨Nat.le_of_ble_eq_true rfl, Nat.le_of_ble_eq_true rfl⟩) hK2 hP hD hS hA [0, 1, 2, 3, 4] [5, 6, 7, 8, 9, 10, 11, 12, 13, 14, 15] rfl rfl (by decide) (by decide) (by decide) (hP.sub [0, 1, 2, 3, 4] rfl) (ci := 1) rfl rfl rfl hl.1 rfl (Nat.le_of_ble_eq_true rfl) dL_law_206 ⟨Nat.le_of_ble_eq_true rfl, Nat.le_of_ble_eq_true rfl⟩ (fun r2 u2 H locs hw2 hP hD hS => ?_)
        obtain ⟨er, n1, e1, e2, hI1⟩ := cr_law_dro hI hw1 hw2
        have hP : va_P D vwCl (xw d h u1.1 nd sn u1.2.1 u1.2.2.1 u1.2.2.2.1 u1.2.2.2.2 ta he ro fl bY qu ++ mw d2 g u2.1 u2.2.1 u2.2.2.1 u2.2.2.2.1 u2.2.2.2.2) H := hP
        have hD : va_D (fun q : Nat => s.heap.size ≤ q) (xw d h u1.1 nd sn u1.2.1 u1.2.2.1 u1.2.2.2.1 u1.2.2.2.2 ta he ro fl bY qu ++ mw d2 g u2.1 u2.2.1 u2.2.2.1 u2.2.2.2.1 u2.2.2.2.2) := hD
        rw [e1, e2] at hP hD
        refine lv_icmp_eq (tgt := 345) hx hb dL_law_209 (by decide) (fun c2 => ?_) (fun c2 => ?_)
        · refine lv_iinc (v := (nI (i + 4))) (lv' := [(3, .int (nI (i + 4))), (2, .ref (g 0)), (1, .ref (h 0)), (0, .ref b)]) hx hb dL_law_345 hl (k := 0) rfl (cr_inc4 i) (by decide) rfl (fun ls hl => ?_)
          refine lv_goto (tgt := 18) hx hb dL_law_348 (by decide) ?_
          exact ih (i + 4) n1 nd sn u1.2.1 u1.2.2.1 u1.2.2.2.1 u1.2.2.2.2 ta he ro fl bY qu u2.2.1 u2.2.2.1 u2.2.2.2.1 u2.2.2.2.2 H locs ls (by omega) (by omega) hI1 hP hD hS (lv_sub hl [0, 1, 2, 3] rfl)
        · exact absurd (er) c2
      · refine lv_tableIn (tgt := 214) (off := 182) hx hb dL_law_32 (by decide) (by decide) (by decide) (by decide) ?_
        refine lv_aload_n hx hb dL_law_214 rfl (lv_at hl 2 rfl) ?_
        refine cr_parti (As := []) (rest := []) (wr := mw d2 g (nI n) mt mh ml mi) ⟨hx, hb, hml, hown, hts⟩ (metX0_possible l D d h H.size (nI n) nd sn fr to lo hi ta he ro fl bY qu n rfl hAr) (cwV 0 hts (lw_V q90 q91 q92 q16 q93) rfl rfl rfl (by decide +kernel) ⟨Nat.le_of_ble_eq_true rfl, Nat.le_of_ble_eq_true rfl⟩) hK1 hP hD hS hA [0, 1, 2, 3, 4, 5, 6, 7, 8, 9, 10] [11, 12, 13, 14, 15] rfl rfl (by decide) (by decide) (by decide) (hP.sub [0, 1, 2, 3, 4, 5, 6, 7, 8, 9, 10] rfl) (ci := 0) rfl rfl rfl hl.1 rfl (Nat.le_of_ble_eq_true rfl) dL_law_215 ⟨Nat.le_of_ble_eq_true rfl, Nat.le_of_ble_eq_true rfl⟩ (fun r1 u1 H locs hw1 hP hD hS => ?_)
        obtain ⟨nd1, sn1, ta1, he1, ro1, fl1, bY1, qu1⟩ := u1
        have hP : va_P D vwCl (mw d2 g (nI n) mt mh ml mi ++ xw d h (nI n) nd1 sn1 fr to lo hi ta1 he1 ro1 fl1 bY1 qu1) H := hP
        have hD : va_D (fun q : Nat => s.heap.size ≤ q) (mw d2 g (nI n) mt mh ml mi ++ xw d h (nI n) nd1 sn1 fr to lo hi ta1 he1 ro1 fl1 bY1 qu1) := hD
        refine lv_aload_n hx hb dL_law_218 rfl (lv_at hl 1 rfl) ?_
        refine cr_parti (As := []) (rest := [.int r1]) (wr := xw d h (nI n) nd1 sn1 fr to lo hi ta1 he1 ro1 fl1 bY1 qu1) ⟨hx, hb, hml, hown, hts⟩ (metX1_possible l D d2 g H.size n mt mh ml mi hAm) (cwV 0 hts (lw_V q200 q201 q202 q17 q203) rfl rfl rfl (by decide +kernel) ⟨Nat.le_of_ble_eq_true rfl, Nat.le_of_ble_eq_true rfl⟩) hK2 hP hD hS hA [0, 1, 2, 3, 4] [5, 6, 7, 8, 9, 10, 11, 12, 13, 14, 15] rfl rfl (by decide) (by decide) (by decide) (hP.sub [0, 1, 2, 3, 4] rfl) (ci := 1) rfl rfl rfl hl.1 rfl (Nat.le_of_ble_eq_true rfl) dL_law_219 ⟨Nat.le_of_ble_eq_true rfl, Nat.le_of_ble_eq_true rfl⟩ (fun r2 u2 H locs hw2 hP hD hS => ?_)
        have hP : va_P D vwCl (xw d h (nI n) nd1 sn1 fr to lo hi ta1 he1 ro1 fl1 bY1 qu1 ++ mw d2 g (nI n) mt mh ml mi) H := hP
        have hD : va_D (fun q : Nat => s.heap.size ≤ q) (xw d h (nI n) nd1 sn1 fr to lo hi ta1 he1 ro1 fl1 bY1 qu1 ++ mw d2 g (nI n) mt mh ml mi) := hD
        refine lv_icmp_eq (tgt := 345) hx hb dL_law_222 (by decide) (fun c2 => ?_) (fun c2 => ?_)
        · refine lv_iinc (v := (nI (i + 4))) (lv' := [(3, .int (nI (i + 4))), (2, .ref (g 0)), (1, .ref (h 0)), (0, .ref b)]) hx hb dL_law_345 hl (k := 0) rfl (cr_inc4 i) (by decide) rfl (fun ls hl => ?_)
          refine lv_goto (tgt := 18) hx hb dL_law_348 (by decide) ?_
          exact ih (i + 4) n nd1 sn1 fr to lo hi ta1 he1 ro1 fl1 bY1 qu1 mt mh ml mi H locs ls (by omega) (by omega) hI hP hD hS (lv_sub hl [0, 1, 2, 3] rfl)
        · exact absurd (cr_PP_uniq (cr_LI_sm hI) hw1 hw2) c2
      · refine lv_tableIn (tgt := 227) (off := 195) hx hb dL_law_32 (by decide) (by decide) (by decide) (by decide) ?_
        refine lv_aload_n hx hb dL_law_227 rfl (lv_at hl 2 rfl) ?_
        refine cr_parti (As := []) (rest := []) (wr := mw d2 g (nI n) mt mh ml mi) ⟨hx, hb, hml, hown, hts⟩ (metX0_lack l D d h H.size (nI n) nd sn fr to lo hi ta he ro fl bY qu n rfl hAr) (cwV 0 hts (lw_V q126 q127 q128 q16 q129) rfl rfl rfl (by decide +kernel) ⟨Nat.le_of_ble_eq_true rfl, Nat.le_of_ble_eq_true rfl⟩) hK1 hP hD hS hA [0, 1, 2, 3, 4, 5, 6, 7, 8, 9, 10] [11, 12, 13, 14, 15] rfl rfl (by decide) (by decide) (by decide) (hP.sub [0, 1, 2, 3, 4, 5, 6, 7, 8, 9, 10] rfl) (ci := 0) rfl rfl rfl hl.1 rfl (Nat.le_of_ble_eq_true rfl) dL_law_228 ⟨Nat.le_of_ble_eq_true rfl, Nat.le_of_ble_eq_true rfl⟩ (fun r1 u1 H locs hw1 hP hD hS => ?_)
        obtain ⟨nd1, sn1, ta1, he1, ro1, fl1, bY1, qu1⟩ := u1
        have hP : va_P D vwCl (mw d2 g (nI n) mt mh ml mi ++ xw d h (nI n) nd1 sn1 fr to lo hi ta1 he1 ro1 fl1 bY1 qu1) H := hP
        have hD : va_D (fun q : Nat => s.heap.size ≤ q) (mw d2 g (nI n) mt mh ml mi ++ xw d h (nI n) nd1 sn1 fr to lo hi ta1 he1 ro1 fl1 bY1 qu1) := hD
        refine lv_aload_n hx hb dL_law_231 rfl (lv_at hl 1 rfl) ?_
        refine cr_parti (As := []) (rest := [.int r1]) (wr := xw d h (nI n) nd1 sn1 fr to lo hi ta1 he1 ro1 fl1 bY1 qu1) ⟨hx, hb, hml, hown, hts⟩ (metX1_lack l D d2 g H.size n mt mh ml mi hAm) (cwV 0 hts (lw_V q212 q213 q214 q17 q215) rfl rfl rfl (by decide +kernel) ⟨Nat.le_of_ble_eq_true rfl, Nat.le_of_ble_eq_true rfl⟩) hK2 hP hD hS hA [0, 1, 2, 3, 4] [5, 6, 7, 8, 9, 10, 11, 12, 13, 14, 15] rfl rfl (by decide) (by decide) (by decide) (hP.sub [0, 1, 2, 3, 4] rfl) (ci := 1) rfl rfl rfl hl.1 rfl (Nat.le_of_ble_eq_true rfl) dL_law_232 ⟨Nat.le_of_ble_eq_true rfl, Nat.le_of_ble_eq_true rfl⟩ (fun r2 u2 H locs hw2 hP hD hS => ?_)
        have hP : va_P D vwCl (xw d h (nI n) nd1 sn1 fr to lo hi ta1 he1 ro1 fl1 bY1 qu1 ++ mw d2 g (nI n) mt mh ml mi) H := hP
        have hD : va_D (fun q : Nat => s.heap.size ≤ q) (xw d h (nI n) nd1 sn1 fr to lo hi ta1 he1 ro1 fl1 bY1 qu1 ++ mw d2 g (nI n) mt mh ml mi) := hD
        refine lv_icmp_eq (tgt := 345) hx hb dL_law_235 (by decide) (fun c2 => ?_) (fun c2 => ?_)
        · refine lv_iinc (v := (nI (i + 4))) (lv' := [(3, .int (nI (i + 4))), (2, .ref (g 0)), (1, .ref (h 0)), (0, .ref b)]) hx hb dL_law_345 hl (k := 0) rfl (cr_inc4 i) (by decide) rfl (fun ls hl => ?_)
          refine lv_goto (tgt := 18) hx hb dL_law_348 (by decide) ?_
          exact ih (i + 4) n nd1 sn1 fr to lo hi ta1 he1 ro1 fl1 bY1 qu1 mt mh ml mi H locs ls (by omega) (by omega) hI hP hD hS (lv_sub hl [0, 1, 2, 3] rfl)
        · exact absurd (cr_law_lack hI hw1 hw2) c2
      · refine lv_tableIn (tgt := 240) (off := 208) hx hb dL_law_32 (by decide) (by decide) (by decide) (by decide) ?_
        refine lv_aload_n hx hb dL_law_240 rfl (lv_at hl 2 rfl) ?_
        refine cr_parti (As := []) (rest := []) (wr := mw d2 g (nI n) mt mh ml mi) ⟨hx, hb, hml, hown, hts⟩ (metX0_lackingSet l D d h H.size (nI n) nd sn fr to lo hi ta he ro fl bY qu n rfl hAr) (cwV 0 hts (lw_V q130 q131 q132 q16 q133) rfl rfl rfl (by decide +kernel) ⟨Nat.le_of_ble_eq_true rfl, Nat.le_of_ble_eq_true rfl⟩) hK1 hP hD hS hA [0, 1, 2, 3, 4, 5, 6, 7, 8, 9, 10] [11, 12, 13, 14, 15] rfl rfl (by decide) (by decide) (by decide) (hP.sub [0, 1, 2, 3, 4, 5, 6, 7, 8, 9, 10] rfl) (ci := 0) rfl rfl rfl hl.1 rfl (Nat.le_of_ble_eq_true rfl) dL_law_241 ⟨Nat.le_of_ble_eq_true rfl, Nat.le_of_ble_eq_true rfl⟩ (fun r1 u1 H locs hw1 hP hD hS => ?_)
        obtain ⟨nd1, sn1, ta1, he1, ro1, fl1, bY1, qu1⟩ := u1
        have hP : va_P D vwCl (mw d2 g (nI n) mt mh ml mi ++ xw d h (nI n) nd1 sn1 fr to lo hi ta1 he1 ro1 fl1 bY1 qu1) H := hP
        have hD : va_D (fun q : Nat => s.heap.size ≤ q) (mw d2 g (nI n) mt mh ml mi ++ xw d h (nI n) nd1 sn1 fr to lo hi ta1 he1 ro1 fl1 bY1 qu1) := hD
        refine lv_aload_n hx hb dL_law_244 rfl (lv_at hl 1 rfl) ?_
        refine cr_parti (As := []) (rest := [.int r1]) (wr := xw d h (nI n) nd1 sn1 fr to lo hi ta1 he1 ro1 fl1 bY1 qu1) ⟨hx, hb, hml, hown, hts⟩ (metX1_lackingSet l D d2 g H.size n mt mh ml mi hAm) (cwV 0 hts (lw_V q216 q217 q218 q17 q219) rfl rfl rfl (by decide +kernel) ⟨Nat.le_of_ble_eq_true rfl, Nat.le_of_ble_eq_true rfl⟩) hK2 hP hD hS hA [0, 1, 2, 3, 4] [5, 6, 7, 8, 9, 10, 11, 12, 13, 14, 15] rfl rfl (by decide) (by decide) (by decide) (hP.sub [0, 1, 2, 3, 4] rfl) (ci := 1) rfl rfl rfl hl.1 rfl (Nat.le_of_ble_eq_true rfl) dL_law_245 ⟨Nat.le_of_ble_eq_true rfl, Nat.le_of_ble_eq_true rfl⟩ (fun r2 u2 H locs hw2 hP hD hS => ?_)
        have hP : va_P D vwCl (xw d h (nI n) nd1 sn1 fr to lo hi ta1 he1 ro1 fl1 bY1 qu1 ++ mw d2 g (nI n) mt mh ml mi) H := hP
        have hD : va_D (fun q : Nat => s.heap.size ≤ q) (xw d h (nI n) nd1 sn1 fr to lo hi ta1 he1 ro1 fl1 bY1 qu1 ++ mw d2 g (nI n) mt mh ml mi) := hD
        refine lv_icmp_eq (tgt := 345) hx hb dL_law_248 (by decide) (fun c2 => ?_) (fun c2 => ?_)
        · refine lv_iinc (v := (nI (i + 4))) (lv' := [(3, .int (nI (i + 4))), (2, .ref (g 0)), (1, .ref (h 0)), (0, .ref b)]) hx hb dL_law_345 hl (k := 0) rfl (cr_inc4 i) (by decide) rfl (fun ls hl => ?_)
          refine lv_goto (tgt := 18) hx hb dL_law_348 (by decide) ?_
          exact ih (i + 4) n nd1 sn1 fr to lo hi ta1 he1 ro1 fl1 bY1 qu1 mt mh ml mi H locs ls (by omega) (by omega) hI hP hD hS (lv_sub hl [0, 1, 2, 3] rfl)
        · exact absurd (cr_PS_uniq (cr_LI_sm hI) hw1 hw2) c2
      · refine lv_tableIn (tgt := 253) (off := 221) hx hb dL_law_32 (by decide) (by decide) (by decide) (by decide) ?_
        refine lv_aload_n hx hb dL_law_253 rfl (lv_at hl 2 rfl) ?_
        refine lv_aload_n hx hb dL_law_254 rfl (lv_at hl 3 rfl) ?_
        refine lv_iload_n hx hb dL_law_255 rfl (lv_at hl 0 rfl) ?_
        refine lv_iconst (v := (nI 1)) hx hb dL_law_256 (by decide) ?_
        refine lv_iadd hx hb dL_law_257 ?_
        refine lv_topi (fun y9 ey9 => ?_)
        obtain rfl : y9 = nI (i + 1) := ey9.trans (nI_add i 1)
        refine va_sld hx hb hX hbl hbA hS (vp_in_nI (show (i + 1) < L by omega) (by omega)) dL_law_258 ?_
        refine lv_topi (fun y9 ey9 => ?_)
        obtain rfl : y9 = xs (i + 1) := ey9.trans (congrArg xs (nI_clamp (show (i + 1) < 2 ^ 31 by omega)))
        refine cr_parti (As := [.int (xs (i + 1))]) (rest := []) (wr := mw d2 g (nI n) mt mh ml mi) ⟨hx, hb, hml, hown, hts⟩ (metX0_least l D d h H.size (nI n) nd sn fr to lo hi ta he ro fl bY qu n rfl hAr (xs (i + 1))) (cwV 1 hts (lw_V q134 q135 q136 q16 q137) rfl rfl rfl (by decide +kernel) ⟨Nat.le_of_ble_eq_true rfl, Nat.le_of_ble_eq_true rfl⟩) hK1 hP hD hS hA [0, 1, 2, 3, 4, 5, 6, 7, 8, 9, 10] [11, 12, 13, 14, 15] rfl rfl (by decide) (by decide) (by decide) (hP.sub [0, 1, 2, 3, 4, 5, 6, 7, 8, 9, 10] rfl) (ci := 0) rfl rfl rfl hl.1 rfl (Nat.le_of_ble_eq_true rfl) dL_law_259 ⟨Nat.le_of_ble_eq_true rfl, Nat.le_of_ble_eq_true rfl⟩ (fun r1 u1 H locs hw1 hP hD hS => ?_)
        obtain ⟨nd1, sn1, ta1, he1, ro1, fl1, bY1, qu1⟩ := u1
        have hP : va_P D vwCl (mw d2 g (nI n) mt mh ml mi ++ xw d h (nI n) nd1 sn1 fr to lo hi ta1 he1 ro1 fl1 bY1 qu1) H := hP
        have hD : va_D (fun q : Nat => s.heap.size ≤ q) (mw d2 g (nI n) mt mh ml mi ++ xw d h (nI n) nd1 sn1 fr to lo hi ta1 he1 ro1 fl1 bY1 qu1) := hD
        refine lv_aload_n hx hb dL_law_262 rfl (lv_at hl 1 rfl) ?_
        refine lv_aload_n hx hb dL_law_263 rfl (lv_at hl 3 rfl) ?_
        refine lv_iload_n hx hb dL_law_264 rfl (lv_at hl 0 rfl) ?_
        refine lv_iconst (v := (nI 1)) hx hb dL_law_265 (by decide) ?_
        refine lv_iadd hx hb dL_law_266 ?_
        refine lv_topi (fun y9 ey9 => ?_)
        obtain rfl : y9 = nI (i + 1) := ey9.trans (nI_add i 1)
        refine va_sld hx hb hX hbl hbA hS (vp_in_nI (show (i + 1) < L by omega) (by omega)) dL_law_267 ?_
        refine lv_topi (fun y9 ey9 => ?_)
        obtain rfl : y9 = xs (i + 1) := ey9.trans (congrArg xs (nI_clamp (show (i + 1) < 2 ^ 31 by omega)))
        refine cr_parti (As := [.int (xs (i + 1))]) (rest := [.int r1]) (wr := xw d h (nI n) nd1 sn1 fr to lo hi ta1 he1 ro1 fl1 bY1 qu1) ⟨hx, hb, hml, hown, hts⟩ (metX1_least l D d2 g H.size n mt mh ml mi hAm (xs (i + 1))) (cwV 1 hts (lw_V q220 q221 q222 q17 q223) rfl rfl rfl (by decide +kernel) ⟨Nat.le_of_ble_eq_true rfl, Nat.le_of_ble_eq_true rfl⟩) hK2 hP hD hS hA [0, 1, 2, 3, 4] [5, 6, 7, 8, 9, 10, 11, 12, 13, 14, 15] rfl rfl (by decide) (by decide) (by decide) (hP.sub [0, 1, 2, 3, 4] rfl) (ci := 1) rfl rfl rfl hl.1 rfl (Nat.le_of_ble_eq_true rfl) dL_law_268 ⟨Nat.le_of_ble_eq_true rfl, Nat.le_of_ble_eq_true rfl⟩ (fun r2 u2 H locs hw2 hP hD hS => ?_)
        have hP : va_P D vwCl (xw d h (nI n) nd1 sn1 fr to lo hi ta1 he1 ro1 fl1 bY1 qu1 ++ mw d2 g (nI n) mt mh ml mi) H := hP
        have hD : va_D (fun q : Nat => s.heap.size ≤ q) (xw d h (nI n) nd1 sn1 fr to lo hi ta1 he1 ro1 fl1 bY1 qu1 ++ mw d2 g (nI n) mt mh ml mi) := hD
        refine lv_icmp_eq (tgt := 345) hx hb dL_law_271 (by decide) (fun c2 => ?_) (fun c2 => ?_)
        · refine lv_iinc (v := (nI (i + 4))) (lv' := [(3, .int (nI (i + 4))), (2, .ref (g 0)), (1, .ref (h 0)), (0, .ref b)]) hx hb dL_law_345 hl (k := 0) rfl (cr_inc4 i) (by decide) rfl (fun ls hl => ?_)
          refine lv_goto (tgt := 18) hx hb dL_law_348 (by decide) ?_
          exact ih (i + 4) n nd1 sn1 fr to lo hi ta1 he1 ro1 fl1 bY1 qu1 mt mh ml mi H locs ls (by omega) (by omega) hI hP hD hS (lv_sub hl [0, 1, 2, 3] rfl)
        · exact absurd (cr_law_least hI hw1 hw2) c2
      · refine lv_tableIn (tgt := 276) (off := 244) hx hb dL_law_32 (by decide) (by decide) (by decide) (by decide) ?_
        refine lv_aload_n hx hb dL_law_276 rfl (lv_at hl 2 rfl) ?_
        refine lv_aload_n hx hb dL_law_277 rfl (lv_at hl 3 rfl) ?_
        refine lv_iload_n hx hb dL_law_278 rfl (lv_at hl 0 rfl) ?_
        refine lv_iconst (v := (nI 1)) hx hb dL_law_279 (by decide) ?_
        refine lv_iadd hx hb dL_law_280 ?_
        refine lv_topi (fun y9 ey9 => ?_)
        obtain rfl : y9 = nI (i + 1) := ey9.trans (nI_add i 1)
        refine va_sld hx hb hX hbl hbA hS (vp_in_nI (show (i + 1) < L by omega) (by omega)) dL_law_281 ?_
        refine lv_topi (fun y9 ey9 => ?_)
        obtain rfl : y9 = xs (i + 1) := ey9.trans (congrArg xs (nI_clamp (show (i + 1) < 2 ^ 31 by omega)))
        refine cr_parti (As := [.int (xs (i + 1))]) (rest := []) (wr := mw d2 g (nI n) mt mh ml mi) ⟨hx, hb, hml, hown, hts⟩ (metX0_most l D d h H.size (nI n) nd sn fr to lo hi ta he ro fl bY qu n rfl hAr (xs (i + 1))) (cwV 1 hts (lw_V q138 q139 q140 q16 q141) rfl rfl rfl (by decide +kernel) ⟨Nat.le_of_ble_eq_true rfl, Nat.le_of_ble_eq_true rfl⟩) hK1 hP hD hS hA [0, 1, 2, 3, 4, 5, 6, 7, 8, 9, 10] [11, 12, 13, 14, 15] rfl rfl (by decide) (by decide) (by decide) (hP.sub [0, 1, 2, 3, 4, 5, 6, 7, 8, 9, 10] rfl) (ci := 0) rfl rfl rfl hl.1 rfl (Nat.le_of_ble_eq_true rfl) dL_law_282 ⟨Nat.le_of_ble_eq_true rfl, Nat.le_of_ble_eq_true rfl⟩ (fun r1 u1 H locs hw1 hP hD hS => ?_)
        obtain ⟨nd1, sn1, ta1, he1, ro1, fl1, bY1, qu1⟩ := u1
        have hP : va_P D vwCl (mw d2 g (nI n) mt mh ml mi ++ xw d h (nI n) nd1 sn1 fr to lo hi ta1 he1 ro1 fl1 bY1 qu1) H := hP
        have hD : va_D (fun q : Nat => s.heap.size ≤ q) (mw d2 g (nI n) mt mh ml mi ++ xw d h (nI n) nd1 sn1 fr to lo hi ta1 he1 ro1 fl1 bY1 qu1) := hD
        refine lv_aload_n hx hb dL_law_285 rfl (lv_at hl 1 rfl) ?_
        refine lv_aload_n hx hb dL_law_286 rfl (lv_at hl 3 rfl) ?_
        refine lv_iload_n hx hb dL_law_287 rfl (lv_at hl 0 rfl) ?_
        refine lv_iconst (v := (nI 1)) hx hb dL_law_288 (by decide) ?_
        refine lv_iadd hx hb dL_law_289 ?_
        refine lv_topi (fun y9 ey9 => ?_)
        obtain rfl : y9 = nI (i + 1) := ey9.trans (nI_add i 1)
        refine va_sld hx hb hX hbl hbA hS (vp_in_nI (show (i + 1) < L by omega) (by omega)) dL_law_290 ?_
        refine lv_topi (fun y9 ey9 => ?_)
        obtain rfl : y9 = xs (i + 1) := ey9.trans (congrArg xs (nI_clamp (show (i + 1) < 2 ^ 31 by omega)))
        refine cr_parti (As := [.int (xs (i + 1))]) (rest := [.int r1]) (wr := xw d h (nI n) nd1 sn1 fr to lo hi ta1 he1 ro1 fl1 bY1 qu1) ⟨hx, hb, hml, hown, hts⟩ (metX1_most l D d2 g H.size n mt mh ml mi hAm (xs (i + 1))) (cwV 1 hts (lw_V q228 q229 q230 q17 q231) rfl rfl rfl (by decide +kernel) ⟨Nat.le_of_ble_eq_true rfl, Nat.le_of_ble_eq_true rfl⟩) hK2 hP hD hS hA [0, 1, 2, 3, 4] [5, 6, 7, 8, 9, 10, 11, 12, 13, 14, 15] rfl rfl (by decide) (by decide) (by decide) (hP.sub [0, 1, 2, 3, 4] rfl) (ci := 1) rfl rfl rfl hl.1 rfl (Nat.le_of_ble_eq_true rfl) dL_law_291 ⟨Nat.le_of_ble_eq_true rfl, Nat.le_of_ble_eq_true rfl⟩ (fun r2 u2 H locs hw2 hP hD hS => ?_)
        have hP : va_P D vwCl (xw d h (nI n) nd1 sn1 fr to lo hi ta1 he1 ro1 fl1 bY1 qu1 ++ mw d2 g (nI n) mt mh ml mi) H := hP
        have hD : va_D (fun q : Nat => s.heap.size ≤ q) (xw d h (nI n) nd1 sn1 fr to lo hi ta1 he1 ro1 fl1 bY1 qu1 ++ mw d2 g (nI n) mt mh ml mi) := hD
        refine lv_icmp_eq (tgt := 345) hx hb dL_law_294 (by decide) (fun c2 => ?_) (fun c2 => ?_)
        · refine lv_iinc (v := (nI (i + 4))) (lv' := [(3, .int (nI (i + 4))), (2, .ref (g 0)), (1, .ref (h 0)), (0, .ref b)]) hx hb dL_law_345 hl (k := 0) rfl (cr_inc4 i) (by decide) rfl (fun ls hl => ?_)
          refine lv_goto (tgt := 18) hx hb dL_law_348 (by decide) ?_
          exact ih (i + 4) n nd1 sn1 fr to lo hi ta1 he1 ro1 fl1 bY1 qu1 mt mh ml mi H locs ls (by omega) (by omega) hI hP hD hS (lv_sub hl [0, 1, 2, 3] rfl)
        · exact absurd (cr_law_most hI hw1 hw2) c2
      · refine lv_tableIn (tgt := 299) (off := 267) hx hb dL_law_32 (by decide) (by decide) (by decide) (by decide) ?_
        refine lv_aload_n hx hb dL_law_299 rfl (lv_at hl 2 rfl) ?_
        refine lv_aload_n hx hb dL_law_300 rfl (lv_at hl 3 rfl) ?_
        refine lv_iload_n hx hb dL_law_301 rfl (lv_at hl 0 rfl) ?_
        refine lv_iconst (v := (nI 1)) hx hb dL_law_302 (by decide) ?_
        refine lv_iadd hx hb dL_law_303 ?_
        refine lv_topi (fun y9 ey9 => ?_)
        obtain rfl : y9 = nI (i + 1) := ey9.trans (nI_add i 1)
        refine va_sld hx hb hX hbl hbA hS (vp_in_nI (show (i + 1) < L by omega) (by omega)) dL_law_304 ?_
        refine lv_topi (fun y9 ey9 => ?_)
        obtain rfl : y9 = xs (i + 1) := ey9.trans (congrArg xs (nI_clamp (show (i + 1) < 2 ^ 31 by omega)))
        refine lv_aload_n hx hb dL_law_305 rfl (lv_at hl 3 rfl) ?_
        refine lv_iload_n hx hb dL_law_306 rfl (lv_at hl 0 rfl) ?_
        refine lv_iconst (v := (nI 2)) hx hb dL_law_307 (by decide) ?_
        refine lv_iadd hx hb dL_law_308 ?_
        refine lv_topi (fun y9 ey9 => ?_)
        obtain rfl : y9 = nI (i + 2) := ey9.trans (nI_add i 2)
        refine va_sld hx hb hX hbl hbA hS (vp_in_nI (show (i + 2) < L by omega) (by omega)) dL_law_309 ?_
        refine lv_topi (fun y9 ey9 => ?_)
        obtain rfl : y9 = xs (i + 2) := ey9.trans (congrArg xs (nI_clamp (show (i + 2) < 2 ^ 31 by omega)))
        refine cr_parti (As := [.int (xs (i + 1)), .int (xs (i + 2))]) (rest := []) (wr := mw d2 g (nI n) mt mh ml mi) ⟨hx, hb, hml, hown, hts⟩ (metX0_through l D d h H.size (nI n) nd sn fr to lo hi ta he ro fl bY qu n rfl hAr (xs (i + 1)) (xs (i + 2))) (cwV 2 hts (lw_V q142 q143 q144 q16 q145) rfl rfl rfl (by decide +kernel) ⟨Nat.le_of_ble_eq_true rfl, Nat.le_of_ble_eq_true rfl⟩) hK1 hP hD hS hA [0, 1, 2, 3, 4, 5, 6, 7, 8, 9, 10] [11, 12, 13, 14, 15] rfl rfl (by decide) (by decide) (by decide) (hP.sub [0, 1, 2, 3, 4, 5, 6, 7, 8, 9, 10] rfl) (ci := 0) rfl rfl rfl hl.1 rfl (Nat.le_of_ble_eq_true rfl) dL_law_310 ⟨Nat.le_of_ble_eq_true rfl, Nat.le_of_ble_eq_true rfl⟩ (fun r1 u1 H locs hw1 hP hD hS => ?_)
        obtain ⟨nd1, sn1, ta1, he1, ro1, fl1, bY1, qu1⟩ := u1
        have hP : va_P D vwCl (mw d2 g (nI n) mt mh ml mi ++ xw d h (nI n) nd1 sn1 fr to lo hi ta1 he1 ro1 fl1 bY1 qu1) H := hP
        have hD : va_D (fun q : Nat => s.heap.size ≤ q) (mw d2 g (nI n) mt mh ml mi ++ xw d h (nI n) nd1 sn1 fr to lo hi ta1 he1 ro1 fl1 bY1 qu1) := hD
        refine lv_aload_n hx hb dL_law_313 rfl (lv_at hl 1 rfl) ?_
        refine lv_aload_n hx hb dL_law_314 rfl (lv_at hl 3 rfl) ?_
        refine lv_iload_n hx hb dL_law_315 rfl (lv_at hl 0 rfl) ?_
        refine lv_iconst (v := (nI 1)) hx hb dL_law_316 (by decide) ?_
        refine lv_iadd hx hb dL_law_317 ?_
        refine lv_topi (fun y9 ey9 => ?_)
        obtain rfl : y9 = nI (i + 1) := ey9.trans (nI_add i 1)
        refine va_sld hx hb hX hbl hbA hS (vp_in_nI (show (i + 1) < L by omega) (by omega)) dL_law_318 ?_
        refine lv_topi (fun y9 ey9 => ?_)
        obtain rfl : y9 = xs (i + 1) := ey9.trans (congrArg xs (nI_clamp (show (i + 1) < 2 ^ 31 by omega)))
        refine lv_aload_n hx hb dL_law_319 rfl (lv_at hl 3 rfl) ?_
        refine lv_iload_n hx hb dL_law_320 rfl (lv_at hl 0 rfl) ?_
        refine lv_iconst (v := (nI 2)) hx hb dL_law_321 (by decide) ?_
        refine lv_iadd hx hb dL_law_322 ?_
        refine lv_topi (fun y9 ey9 => ?_)
        obtain rfl : y9 = nI (i + 2) := ey9.trans (nI_add i 2)
        refine va_sld hx hb hX hbl hbA hS (vp_in_nI (show (i + 2) < L by omega) (by omega)) dL_law_323 ?_
        refine lv_topi (fun y9 ey9 => ?_)
        obtain rfl : y9 = xs (i + 2) := ey9.trans (congrArg xs (nI_clamp (show (i + 2) < 2 ^ 31 by omega)))
        refine cr_parti (As := [.int (xs (i + 1)), .int (xs (i + 2))]) (rest := [.int r1]) (wr := xw d h (nI n) nd1 sn1 fr to lo hi ta1 he1 ro1 fl1 bY1 qu1) ⟨hx, hb, hml, hown, hts⟩ (metX1_through l D d2 g H.size n mt mh ml mi hAm (xs (i + 1)) (xs (i + 2))) (cwV 2 hts (lw_V q232 q233 q234 q17 q235) rfl rfl rfl (by decide +kernel) ⟨Nat.le_of_ble_eq_true rfl, Nat.le_of_ble_eq_true rfl⟩) hK2 hP hD hS hA [0, 1, 2, 3, 4] [5, 6, 7, 8, 9, 10, 11, 12, 13, 14, 15] rfl rfl (by decide) (by decide) (by decide) (hP.sub [0, 1, 2, 3, 4] rfl) (ci := 1) rfl rfl rfl hl.1 rfl (Nat.le_of_ble_eq_true rfl) dL_law_324 ⟨Nat.le_of_ble_eq_true rfl, Nat.le_of_ble_eq_true rfl⟩ (fun r2 u2 H locs hw2 hP hD hS => ?_)
        obtain ⟨mt1, mh1, ml1, mi1⟩ := u2
        have hP : va_P D vwCl (xw d h (nI n) nd1 sn1 fr to lo hi ta1 he1 ro1 fl1 bY1 qu1 ++ mw d2 g (nI n) mt1 mh1 ml1 mi1) H := hP
        have hD : va_D (fun q : Nat => s.heap.size ≤ q) (xw d h (nI n) nd1 sn1 fr to lo hi ta1 he1 ro1 fl1 bY1 qu1 ++ mw d2 g (nI n) mt1 mh1 ml1 mi1) := hD
        refine lv_icmp_eq (tgt := 345) hx hb dL_law_327 (by decide) (fun c2 => ?_) (fun c2 => ?_)
        · refine lv_iinc (v := (nI (i + 4))) (lv' := [(3, .int (nI (i + 4))), (2, .ref (g 0)), (1, .ref (h 0)), (0, .ref b)]) hx hb dL_law_345 hl (k := 0) rfl (cr_inc4 i) (by decide) rfl (fun ls hl => ?_)
          refine lv_goto (tgt := 18) hx hb dL_law_348 (by decide) ?_
          exact ih (i + 4) n nd1 sn1 fr to lo hi ta1 he1 ro1 fl1 bY1 qu1 mt1 mh1 ml1 mi1 H locs ls (by omega) (by omega) (cr_LI_ag hI hw2.1) hP hD hS (lv_sub hl [0, 1, 2, 3] rfl)
        · exact absurd (cr_law_thr hI hw1 hw2.2) c2
      · refine lv_tableIn (tgt := 332) (off := 300) hx hb dL_law_32 (by decide) (by decide) (by decide) (by decide) ?_
        refine lv_aload_n hx hb dL_law_332 rfl (lv_at hl 2 rfl) ?_
        refine cr_parti (As := []) (rest := []) (wr := mw d2 g (nI n) mt mh ml mi) ⟨hx, hb, hml, hown, hts⟩ (metX0_arcs l D d h H.size (nI n) nd sn fr to lo hi ta he ro fl bY qu) (cwV 0 hts (lw_V q146 q147 q148 q16 q149) rfl rfl rfl (by decide +kernel) ⟨Nat.le_of_ble_eq_true rfl, Nat.le_of_ble_eq_true rfl⟩) hK1 hP hD hS hA [0, 1, 2, 3, 4, 5, 6, 7, 8, 9, 10] [11, 12, 13, 14, 15] rfl rfl (by decide) (by decide) (by decide) (hP.sub [0, 1, 2, 3, 4, 5, 6, 7, 8, 9, 10] rfl) (ci := 0) rfl rfl rfl hl.1 rfl (Nat.le_of_ble_eq_true rfl) dL_law_333 ⟨Nat.le_of_ble_eq_true rfl, Nat.le_of_ble_eq_true rfl⟩ (fun r1 u1 H locs hw1 hP hD hS => ?_)
        have hP : va_P D vwCl (mw d2 g (nI n) mt mh ml mi ++ xw d h (nI n) nd sn fr to lo hi ta he ro fl bY qu) H := hP
        have hD : va_D (fun q : Nat => s.heap.size ≤ q) (mw d2 g (nI n) mt mh ml mi ++ xw d h (nI n) nd sn fr to lo hi ta he ro fl bY qu) := hD
        refine lv_aload_n hx hb dL_law_336 rfl (lv_at hl 1 rfl) ?_
        refine cr_parti (As := []) (rest := [.int r1]) (wr := xw d h (nI n) nd sn fr to lo hi ta he ro fl bY qu) ⟨hx, hb, hml, hown, hts⟩ (metX1_arcs l D d2 g H.size n mt mh ml mi) (cwV 0 hts (lw_V q236 q237 q238 q17 q239) rfl rfl rfl (by decide +kernel) ⟨Nat.le_of_ble_eq_true rfl, Nat.le_of_ble_eq_true rfl⟩) hK2 hP hD hS hA [0, 1, 2, 3, 4] [5, 6, 7, 8, 9, 10, 11, 12, 13, 14, 15] rfl rfl (by decide) (by decide) (by decide) (hP.sub [0, 1, 2, 3, 4] rfl) (ci := 1) rfl rfl rfl hl.1 rfl (Nat.le_of_ble_eq_true rfl) dL_law_337 ⟨Nat.le_of_ble_eq_true rfl, Nat.le_of_ble_eq_true rfl⟩ (fun r2 u2 H locs hw2 hP hD hS => ?_)
        have hP : va_P D vwCl (xw d h (nI n) nd sn fr to lo hi ta he ro fl bY qu ++ mw d2 g (nI n) mt mh ml mi) H := hP
        have hD : va_D (fun q : Nat => s.heap.size ≤ q) (xw d h (nI n) nd sn fr to lo hi ta he ro fl bY qu ++ mw d2 g (nI n) mt mh ml mi) := hD
        refine lv_icmp_eq (tgt := 345) hx hb dL_law_340 (by decide) (fun c2 => ?_) (fun c2 => ?_)
        · refine lv_iinc (v := (nI (i + 4))) (lv' := [(3, .int (nI (i + 4))), (2, .ref (g 0)), (1, .ref (h 0)), (0, .ref b)]) hx hb dL_law_345 hl (k := 0) rfl (cr_inc4 i) (by decide) rfl (fun ls hl => ?_)
          refine lv_goto (tgt := 18) hx hb dL_law_348 (by decide) ?_
          exact ih (i + 4) n nd sn fr to lo hi ta he ro fl bY qu mt mh ml mi H locs ls (by omega) (by omega) hI hP hD hS (lv_sub hl [0, 1, 2, 3] rfl)
        · exact absurd (hw1.trans hw2.symm) c2
      · refine lv_tableOut (tgt := 345) hx hb dL_law_32 (Or.inr (by rw [nI_toInt (by omega)]; omega)) (by decide) ?_
        refine lv_iinc (v := (nI (i + 4))) (lv' := [(3, .int (nI (i + 4))), (2, .ref (g 0)), (1, .ref (h 0)), (0, .ref b)]) hx hb dL_law_345 hl (k := 0) rfl (cr_inc4 i) (by decide) rfl (fun ls hl => ?_)
        refine lv_goto (tgt := 18) hx hb dL_law_348 (by decide) ?_
        exact ih (i + 4) n nd sn fr to lo hi ta he ro fl bY qu mt mh ml mi H locs ls (by omega) (by omega) hI hP hD hS (lv_sub hl [0, 1, 2, 3] rfl)
end
section
/-- the classes, known at the claim's start -/
theorem cr_classes {s0 : State} {b0 : Addr} (ht0 : ∀ w ∈ lw_tbl, w.before #[Value.ref b0] s0 = true) : ∃ D : va_G, va_K D vwCl [] s0 := by
  obtain ⟨c0_, iS0, hKn0⟩ := u_known (C := RX0) (T := TX0) (N := 13) (n := 13) ht0 (fun w h => lw_all_tbl (in_X0 w h)) (ht0 _ (lw_all_tbl q19))
  obtain ⟨c1_, iS1, hKn1⟩ := u_known (C := RX1) (T := TX1) (N := 5) (n := 5) ht0 (fun w h => lw_all_tbl (in_X1 w h)) (ht0 _ (lw_all_tbl q151))
  refine ⟨(fun k => if k = 0 then c0_ else c1_, fun k => if k = 0 then iS0 else iS1), ?_, fun k q hk => by cases hk⟩
  intro k q hq
  match k, hq with
  | 0, hq => cases hq; exact hKn0
  | 1, hq => cases hq; exact hKn1
  | k + 2, hq => simp [vwCl] at hq
set_option maxHeartbeats 4000000 in
set_option maxRecDepth 100000 in
/-- from the entry, for every script of at most 256 ints, the law comes to its end with true -/
theorem whole_start {p : Program} {e : Env} {s : State} {m : MethodId} {below : List Frame} {meth : Method} {c : Code} (l : Launch) {b L : Nat} {xs : Nat → Int32} (hL : L ≤ 256) (C0 : lw_At p s m meth c b L xs) : W p l e room_1 s m #[Value.ref b] below meth c s.heap [] 0 0 (lw_Z below #[Value.ref b] s) (entryFrame m ([Value.ref b] : List Value).toArray 4) := by
  have C1 := C0
  obtain ⟨hx, hb, hr, hml, hown, hts0, hX, hbl, hlocks, hgv⟩ := C0
  have hts : ∀ w ∈ lw_all, w.before #[Value.ref b] s = true := fun w h => hts0 w (lw_all_tbl h)
  obtain ⟨D, hK⟩ := cr_classes hts0
  have hA : ∀ q : Nat, s.heap.size ≤ q → (fun q : Nat => s.heap.size ≤ q) q := fun _ h => h
  have hS : va_S (fun q : Nat => s.heap.size ≤ q) s.heap s.heap [] := va_S.rf
  have hP : va_P D vwCl [] s.heap := fun k q hk => by cases hk
  have hD : va_D (fun q : Nat => s.heap.size ≤ q) [] := ⟨fun i j p q h => (by cases h), fun k q h => (by cases h)⟩
  have hl := lv_entry ([.ref b]) (n := 4) (Nat.le_of_ble_eq_true rfl)
  rw [lg_entry_eq]
  generalize (lg_sl ([.ref b]) ++ List.replicate (4 - (lg_sl ([.ref b])).length) Slot.unset).toArray = ls at hl ⊢
  have hl : lv_has ls 4 [(0, .ref b)] := hl
  refine va_new (ci := 0) (fs := [.int 0, .null, .null, .null, .null, .null, .null, .null, .null, .int 0, .int 0, .null, .null]) (C := RX0) (T := TX0) (N := 13) hx hb hts in_X0 tyX0 tyX0_ok hown (hts _ q18) (hts _ q19) (hts _ q16) hK hP hD hS hA rfl (fun j hj => by rcases (show j = 0 ∨ j = 1 ∨ j = 2 ∨ j = 3 ∨ j = 4 ∨ j = 5 ∨ j = 6 ∨ j = 7 ∨ j = 8 ∨ j = 9 ∨ j = 10 ∨ j = 11 ∨ j = 12 by omega) with rfl | rfl | rfl | rfl | rfl | rfl | rfl | rfl | rfl | rfl | rfl | rfl | rfl <;> rfl) (Nat.le_of_ble_eq_true rfl) (Nat.le_of_ble_eq_true rfl) dL_law_0 (fun x0 H hP hD hS => ?_)
  have hP : va_P D vwCl [(x0, .inr (0, [.int 0, .null, .null, .null, .null, .null, .null, .null, .null, .int 0, .int 0, .null, .null]))] H := hP
  have hD : va_D (fun q : Nat => s.heap.size ≤ q) [(x0, .inr (0, [.int 0, .null, .null, .null, .null, .null, .null, .null, .null, .int 0, .int 0, .null, .null]))] := hD
  refine W.widen (k := 1) (n := 13) (Nat.le_of_ble_eq_true rfl) (Nat.le_of_ble_eq_true rfl) ?_
  refine lv_dup hx hb dL_law_3 rfl ?_
  have hFc := va_free (wc := [(x0, .inr (0, [.int 0, .null, .null, .null, .null, .null, .null, .null, .null, .int 0, .int 0, .null, .null]))]) hD hS hA [0] rfl
  refine va_callv (va_runI (As := []) (rest := [.ref x0]) ⟨hx, hb, hml, hown, hts⟩ (metX0_init l D x0 H.size) (cwI 0 hts (lw_meth q22) rfl rfl rfl (hts _ q16) (hts _ q20) (hts _ q21) rfl (by decide +kernel) ⟨Nat.le_of_ble_eq_true rfl, Nat.le_of_ble_eq_true rfl⟩) ⟨fun a U g mk q => by obtain ⟨q0, q1, qP, qK, qD⟩ := q; exact ⟨q0, q1, qP, va_K.moved (u := U) (U := U.calling g mk a) (Vm.Alike.refl U.vm) qK, qD⟩, fun U hU hW => ⟨rfl, by rw [hU], by rw [hU]; exact hP, va_K.moved hW.alike hK, hD.weaken (fun _ _ _ _ => trivial)⟩⟩ rfl rfl hl.1 rfl (lv_room (Nat.le_of_ble_eq_true rfl)) dL_law_4 ⟨Nat.le_of_ble_eq_true rfl, Nat.le_of_ble_eq_true rfl⟩) hS (fun q _ h => hFc q h) hFc (fun u t H1 locs ht hvm hw1 hB hz1 hk1 hS => ?_)
  obtain ⟨h, d⟩ := u
  obtain ⟨hP1, hK1, hD1⟩ := hB
  rw [ht] at hP1
  have hw1 : h 0 = x0 := hw1
  subst hw1
  have hK1 : va_K D vwCl [(d, .int)] s := va_K.moved hvm.symm hK1
  have hP : va_P D vwCl (xw d h (nI 0) (nI 0) (nI 0) (fun _ => 0) (fun _ => 0) (fun _ => 0) (fun _ => 0) (fun _ => 0) (fun _ => 0) (fun _ => 0) (fun _ => 0) (fun _ => 0) (fun _ => 0)) H1 := hP1
  have hD : va_D (fun q : Nat => s.heap.size ≤ q) (xw d h (nI 0) (nI 0) (nI 0) (fun _ => 0) (fun _ => 0) (fun _ => 0) (fun _ => 0) (fun _ => 0) (fun _ => 0) (fun _ => 0) (fun _ => 0) (fun _ => 0) (fun _ => 0)) := hD1.weaken (fun _ q _ hq => hFc q.1 hq)
  generalize H1 = H at hP hS ⊢
  refine W.widen (k := 11) (n := 177) (Nat.le_of_ble_eq_true rfl) (Nat.le_of_ble_eq_true rfl) ?_
  refine lv_astore_n (lv' := [(1, .ref (h 0)), (0, .ref b)]) hx hb dL_law_7 rfl hl (by decide) rfl (fun ls hl => ?_)
  refine va_new (ci := 1) (fs := [.null, .null, .null, .null, .int 0]) (C := RX1) (T := TX1) (N := 5) hx hb hts in_X1 tyX1 tyX1_ok hown (hts _ q150) (hts _ q151) (hts _ q17) hK hP hD hS hA rfl (fun j hj => by rcases (show j = 0 ∨ j = 1 ∨ j = 2 ∨ j = 3 ∨ j = 4 by omega) with rfl | rfl | rfl | rfl | rfl <;> rfl) (Nat.le_of_ble_eq_true rfl) (Nat.le_of_ble_eq_true rfl) dL_law_8 (fun m0 H hP hD hS => ?_)
  refine W.widen (k := 12) (n := 182) (Nat.le_of_ble_eq_true rfl) (Nat.le_of_ble_eq_true rfl) ?_
  refine lv_dup hx hb dL_law_11 rfl ?_
  have hPc := hP.sub (ws' := [(m0, .inr (1, [.null, .null, .null, .null, .int 0]))]) [11] rfl
  have hDc := hD.sub (ws' := [(m0, .inr (1, [.null, .null, .null, .null, .int 0]))]) [11] (by decide) rfl
  have hFc := va_free (wc := [(m0, .inr (1, [.null, .null, .null, .null, .int 0]))]) hD hS hA [11] rfl
  refine va_callv (va_runI (As := []) (rest := [.ref m0]) ⟨hx, hb, hml, hown, hts⟩ (metX1_init l D m0 H.size) (cwI 0 hts (lw_meth q154) rfl rfl rfl (hts _ q17) (hts _ q152) (hts _ q153) rfl (by decide +kernel) ⟨Nat.le_of_ble_eq_true rfl, Nat.le_of_ble_eq_true rfl⟩) ⟨fun a U g mk q => by obtain ⟨q0, q1, qP, qK, qD⟩ := q; exact ⟨q0, q1, qP, va_K.moved (u := U) (U := U.calling g mk a) (Vm.Alike.refl U.vm) qK, qD⟩, fun U hU hW => ⟨rfl, by rw [hU], by rw [hU]; exact hPc, va_K.moved hW.alike hK, hDc.weaken (fun _ _ _ _ => trivial)⟩⟩ rfl rfl hl.1 rfl (lv_room (Nat.le_of_ble_eq_true rfl)) dL_law_12 ⟨Nat.le_of_ble_eq_true rfl, Nat.le_of_ble_eq_true rfl⟩) hS (fun q _ h => hFc q h) hFc (fun u t H1 locs ht hvm hw1 hB hz1 hk1 hS => ?_)
  obtain ⟨g, d2⟩ := u
  obtain ⟨hP1, hK2, hD1⟩ := hB
  rw [ht] at hP1
  have hw1 : g 0 = m0 := hw1
  subst hw1
  have hK2 : va_K D vwCl [(d2, .int)] s := va_K.moved hvm.symm hK2
  obtain ⟨hP, hD⟩ := va_join (wr := xw d h (nI 0) (nI 0) (nI 0) (fun _ => 0) (fun _ => 0) (fun _ => 0) (fun _ => 0) (fun _ => 0) (fun _ => 0) (fun _ => 0) (fun _ => 0) (fun _ => 0) (fun _ => 0)) (w1 := mw d2 g (nI 0) (fun _ => 0) (fun _ => 0) (fun _ => 0) (fun _ => 0)) hP hD [11] [0, 1, 2, 3, 4, 5, 6, 7, 8, 9, 10] rfl rfl (by decide) (by decide) hk1 hFc hP1 hD1
  generalize H1 = H at hP hS ⊢
  refine W.widen (k := 16) (n := 234) (Nat.le_of_ble_eq_true rfl) (Nat.le_of_ble_eq_true rfl) ?_
  refine lv_astore_n (lv' := [(2, .ref (g 0)), (1, .ref (h 0)), (0, .ref b)]) hx hb dL_law_15 rfl hl (by decide) rfl (fun ls hl => ?_)
  refine lv_iconst (v := nI 0) hx hb dL_law_16 (by decide) ?_
  refine lv_istore_n (lv' := [(3, .int (nI 0)), (2, .ref (g 0)), (1, .ref (h 0)), (0, .ref b)]) hx hb dL_law_17 rfl hl (by decide) rfl (fun ls hl => ?_)
  exact law_loop hL C1 hK1 hK2 (L + 1) 0 0 (nI 0) (nI 0) _ _ _ _ _ _ _ _ _ _ _ _ _ _ H locs ls (Nat.zero_le _) (by omega) cr_LI_0 hP hD hS hl
set_option maxHeartbeats 4000000 in
theorem lw_walk (l : Launch) (b : Addr) (xs : List Int32) : MetFree l x (headSpec (Jvm.Cond.code x code maxLocals ret :: tables_1) room_1) (lw_P b xs) (fun _ _ _ _ _ => True) lw_Q := by
  refine MetFree.of_bodyS (code := code) (maxLocals := maxLocals) (ret := ret) (by decide) ?_ ?_
  · intro args s m h hn
    obtain ⟨meth, c, h1, h2, h3, h4, h5, h6, -, -⟩ := Cond.code_spec hn (atoms_spec (ws := Jvm.Cond.code x code maxLocals ret :: tables_1) h _ List.mem_cons_self)
    exact ⟨meth, c, h1, h2, h3, h4, h5, h6⟩
  · intro p e s m args below meth c s₁ B hml0 hP _
    obtain ⟨rfl, hx, hbd, hgv⟩ := hP
    obtain ⟨scr, harrAt, hlist, hof, hsmall⟩ := hx
    obtain ⟨hcb, hkn, -, -⟩ := State.arrayAt?_spec harrAt
    have hown : s.vm.findClass R_law = some m.cls := findClass_of_methodNamed B.named
    have hts0 : ∀ c ∈ (Jvm.Cond.code x code maxLocals ret :: tables_1), c.before #[Value.ref b] s = true := atoms_spec (ws := Jvm.Cond.code x code maxLocals ret :: tables_1) B.pre
    have hts : ∀ w ∈ lw_tbl, w.before #[Value.ref b] s = true := k2_hts_sels lw_privs (fun w hw => hts0 w (List.mem_cons_of_mem _ hw)) lw_privs_ok
    have hml : c.maxLocals = 4 := B.maxLocals_eq (hts0 _ List.mem_cons_self)
    have X₀ : Stand p l e room_1 s m #[Value.ref b] below meth c s₁ [] 0 0 := Stand.of_body B
    have hh0 : s₁.heap = s.heap := by rw [B.state]; rfl
    have hsz : scr.slots.size = xs.length := by rw [← Array.length_toList, hlist, List.length_map]
    have hval : ∀ j : Nat, j < xs.length → scr.slots[j]? = some (.int (xs.getD j 0)) := fun j hj => by
      rw [← Array.getElem?_toList, hlist]
      simp [hj]
    have hbl : b < s.heap.size := (Array.getElem?_eq_some_iff.mp hcb).1
    have hX : va_X b xs.length (fun j => xs.getD j 0) s s.heap := ⟨scr, hcb, hof, hkn, hsz, hval⟩
    have K : W p l e room_1 s m #[Value.ref b] below meth c s₁.heap [] 0 0 (lw_Z below #[Value.ref b] s) (entryFrame m ([Value.ref b] : List Value).toArray 4) := by
      rw [hh0]
      exact whole_start l hbd ⟨B.exec, B.bytes, B.returns, hml, hown, hts, hX, hbl, B.notSynchronized, hgv⟩
    obtain ⟨t, a1, o, b1, b2, b3⟩ := K s₁ rfl X₀
    exact ⟨t, o, a1, b1, b2, b3⟩
theorem lw_pre_spec {args : Array Value} {s : State} (h : (Jvm.Cond.and given_1 narrow_1).before args s = true) (hr : rest_1_c.before args s = true) : ∃ (b : Addr) (xs : List Int32), lw_P b xs args s := by
  have hs := flat_of_before _ h
  have hq := flat_of_before _ hr
  have hc : (Cond.count 1).before args s = true := hs _ (by decide +kernel)
  have harr : (Cond.arrayOf (.arg 0) .int).before args s = true := hs _ (by decide +kernel)
  have hle : (Cond.le (.length (.arg 0)) (.int 256)).before args s = true := hs _ (by decide +kernel)
  have hlen : (Cond.isInt (.length (.arg 0))).before args s = true := hq _ (by decide +kernel)
  have hall : (Cond.all (.arg 0) (.isInt (.elem (.arg 0) (.index 0)))).before args s = true := hq _ (by decide +kernel)
  obtain ⟨b, xs, hb, hx⟩ := State.ints_of_pre rfl harr hlen hall
  have hsm : xs.length < 2 ^ 31 := hx.choose_spec.2.2.2
  have hev : (Term.length (.arg 0)).eval args s none [] s = some (.int xs.length.toInt32) := hx.length_eval hb
  have hv := Cond.le_ints hev (show (Term.int 256).eval args s none [] s = some (.int 256) from rfl)
  have hd : xs.length.toInt32 ≤ 256 := by
    simpa [Cond.before, Cond.holds, hv] using hle
  have hN : xs.length ≤ 256 := (Int32.ofNat_le_ofNat hsm (by decide)).mp (show Int32.ofNat xs.length ≤ Int32.ofNat 256 from hd)
  exact ⟨b, xs, Cond.one_arg hc (show args[0]? = some (.ref b) from hb), hx, hN, h⟩
theorem lw_comes (l : Launch) : Comes l x (Jvm.Cond.code x code maxLocals ret :: tables_1) room_1 (fun tb e args s => Calls_1 tb e args s ∧ rest_1 tb e args s ∧ Pre_1 tb e args s)
    (fun _ _ args s o t => lw_Q args s o t) := by
  intro p e ha hc hk s m args below hf hfit hheap happ hpre
  obtain ⟨b, xs, hP⟩ := lw_pre_spec hpre.2.2 hpre.2.1
  obtain ⟨k, o, h1, h2, h3, hQ⟩ := lw_walk l b xs p e ha hc hk s m args below hf ((Spec.applies_iff_loose hf).mp happ).1 hP trivial
  exact ⟨k, o, h1, h2, h3, hQ⟩
theorem lw_frame {s t : State} {o : Outcome} {args : Array Value} (h : Framed s o t [] 600000 7290000) :
    Framed s o t (fieldLocs frame_1_writes args s ++ arrayLocs frame_1_arrays args s ++ staticLocs frame_1_statics s) 600000 7290000 := h
theorem lw_limb (L : Cond) (hL : ∀ (args : Array Value) (s t : State), L.after args s (.returned (some (.int 1))) t = true) :
    ArmFor flags0 classFile x code maxLocals ret World_1 tables_1 room_1 Calls_1 rest_1 Pre_1
      (fun tb e a s o t => postC L tb e a s o t ∧ Framed s o t (fieldLocs frame_1_writes a s ++ arrayLocs frame_1_arrays a s ++ staticLocs frame_1_statics s) 600000 7290000) := by
  intro l _ _ _ p e ha hc hk s m args below hf hfit hheap happ hpre
  obtain ⟨k, o, h1, h2, h3, rfl, hF⟩ := lw_comes l p e ha hc hk s m args below hf hfit hheap happ hpre
  exact ⟨k, _, h1, h2, h3, hL args s _, lw_frame hF⟩
theorem i_vc : Claimed_1_1 ∧ Claimed_1_2 := ⟨lw_limb limb_1_1 (fun args s t => by simp [limb_1_1, Cond.after, Cond.holds, Cond.value]), lw_limb limb_1_2 (fun args s t => Cond.after_iff.mpr (by
  first | (rw [show limb_1_2 = Cond.eq .result (.int 1) from rfl, Cond.eq_ints (x := 1) (y := 1) rfl rfl]; simp; done) | (simp [limb_1_2, Cond.value, Term.eval]; done)))⟩
end
