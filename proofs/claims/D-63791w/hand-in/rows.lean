section
-- ===== PART A: goes FIRST, ahead of the names: the tables' words, and 'selects' of the private methods out of them =====
/-- a private method of a class that the tables say can be made, by its rows of tables_1 -/
def lw_okq (q : MethodName × Nat) : Prop := (q.1.cls ≠ "java/lang/invoke/MethodHandle" ∧ q.1.cls ≠ "java/lang/invoke/VarHandle") ∧ Cond.instantiable q.1.cls q.2 ∈ tables_1 ∧ Cond.privateMethod q.1 ∈ tables_1 ∧ Cond.instanceMethod q.1 ∈ tables_1
set_option maxRecDepth 100000
theorem lw_t1 {w : Cond} (h : w ∈ tables_1_1) : w ∈ tables_1 := List.mem_append_left _ h
theorem lw_t2 {w : Cond} (h : w ∈ tables_1_2) : w ∈ tables_1 := List.mem_append_right _ h
theorem lw_p0 : lw_okq (⟨"LeapJoin", "put", "(IIIZ)V"⟩, 8) := ⟨⟨by decide +kernel, by decide +kernel⟩, lw_t1 (List.mem_of_getElem? (i := 4) rfl), lw_t1 (List.mem_of_getElem? (i := 49) rfl), lw_t1 (List.mem_of_getElem? (i := 50) rfl)⟩
theorem lw_p1 : lw_okq (⟨"LeapJoin", "nextFrom", "(I)I"⟩, 8) := ⟨⟨by decide +kernel, by decide +kernel⟩, lw_t1 (List.mem_of_getElem? (i := 4) rfl), lw_t1 (List.mem_of_getElem? (i := 75) rfl), lw_t1 (List.mem_of_getElem? (i := 76) rfl)⟩
theorem lw_p2 : lw_okq (⟨"LeapJoin", "leap", "(II)I"⟩, 8) := ⟨⟨by decide +kernel, by decide +kernel⟩, lw_t1 (List.mem_of_getElem? (i := 4) rfl), lw_t1 (List.mem_of_getElem? (i := 82) rfl), lw_t1 (List.mem_of_getElem? (i := 83) rfl)⟩
theorem lw_p3 : lw_okq (⟨"LeapJoin", "has", "(II)Z"⟩, 8) := ⟨⟨by decide +kernel, by decide +kernel⟩, lw_t1 (List.mem_of_getElem? (i := 4) rfl), lw_t1 (List.mem_of_getElem? (i := 86) rfl), lw_t1 (List.mem_of_getElem? (i := 87) rfl)⟩
theorem lw_p4 : lw_okq (⟨"LeapJoin", "allowedFrom", "(III)I"⟩, 8) := ⟨⟨by decide +kernel, by decide +kernel⟩, lw_t1 (List.mem_of_getElem? (i := 4) rfl), lw_t1 (List.mem_of_getElem? (i := 90) rfl), lw_t1 (List.mem_of_getElem? (i := 91) rfl)⟩
theorem lw_p5 : lw_okq (⟨"LeapJoin", "nextOnDiagonal", "(II)I"⟩, 8) := ⟨⟨by decide +kernel, by decide +kernel⟩, lw_t1 (List.mem_of_getElem? (i := 4) rfl), lw_t1 (List.mem_of_getElem? (i := 94) rfl), lw_t1 (List.mem_of_getElem? (i := 95) rfl)⟩
theorem lw_p6 : lw_okq (⟨"LeapJoin", "nextWithAny", "(IIZ)I"⟩, 8) := ⟨⟨by decide +kernel, by decide +kernel⟩, lw_t1 (List.mem_of_getElem? (i := 4) rfl), lw_t1 (List.mem_of_getElem? (i := 104) rfl), lw_t1 (List.mem_of_getElem? (i := 105) rfl)⟩
theorem lw_p7 : lw_okq (⟨"LeapJoin", "tightUpTo", "(II)Z"⟩, 8) := ⟨⟨by decide +kernel, by decide +kernel⟩, lw_t1 (List.mem_of_getElem? (i := 4) rfl), lw_t1 (List.mem_of_getElem? (i := 108) rfl), lw_t1 (List.mem_of_getElem? (i := 109) rfl)⟩
theorem lw_p8 : lw_okq (⟨"LeapJoin", "code", "()I"⟩, 8) := ⟨⟨by decide +kernel, by decide +kernel⟩, lw_t1 (List.mem_of_getElem? (i := 4) rfl), lw_t1 (List.mem_of_getElem? (i := 112) rfl), lw_t1 (List.mem_of_getElem? (i := 113) rfl)⟩
theorem lw_p9 : lw_okq (⟨"LeapJoinModel", "relation", "(I)Z"⟩, 6) := ⟨⟨by decide +kernel, by decide +kernel⟩, lw_t1 (List.mem_of_getElem? (i := 149) rfl), lw_t1 (List.mem_of_getElem? (i := 180) rfl), lw_t1 (List.mem_of_getElem? (i := 181) rfl)⟩
theorem lw_p10 : lw_okq (⟨"LeapJoinModel", "thing", "(I)Z"⟩, 6) := ⟨⟨by decide +kernel, by decide +kernel⟩, lw_t1 (List.mem_of_getElem? (i := 149) rfl), lw_t1 (List.mem_of_getElem? (i := 184) rfl), lw_t1 (List.mem_of_getElem? (i := 185) rfl)⟩
theorem lw_p11 : lw_okq (⟨"LeapJoinModel", "in", "(III)Z"⟩, 6) := ⟨⟨by decide +kernel, by decide +kernel⟩, lw_t1 (List.mem_of_getElem? (i := 149) rfl), lw_t1 (List.mem_of_getElem? (i := 192) rfl), lw_t1 (List.mem_of_getElem? (i := 193) rfl)⟩
theorem lw_p12 : lw_okq (⟨"LeapJoinModel", "variable", "(I)Z"⟩, 6) := ⟨⟨by decide +kernel, by decide +kernel⟩, lw_t1 (List.mem_of_getElem? (i := 149) rfl), lw_t1 (List.mem_of_getElem? (i := 200) rfl), lw_t1 (List.mem_of_getElem? (i := 201) rfl)⟩
theorem lw_p13 : lw_okq (⟨"LeapJoinModel", "isAnswer", "(I)Z"⟩, 6) := ⟨⟨by decide +kernel, by decide +kernel⟩, lw_t1 (List.mem_of_getElem? (i := 149) rfl), lw_t1 (List.mem_of_getElem? (i := 212) rfl), lw_t1 (List.mem_of_getElem? (i := 213) rfl)⟩
theorem lw_p14 : lw_okq (⟨"LeapJoinModel", "of", "(II)I"⟩, 6) := ⟨⟨by decide +kernel, by decide +kernel⟩, lw_t1 (List.mem_of_getElem? (i := 149) rfl), lw_t1 (List.mem_of_getElem? (i := 216) rfl), lw_t1 (List.mem_of_getElem? (i := 217) rfl)⟩
def lw_privs_1 : List (MethodName × Nat) := [(⟨"LeapJoin", "put", "(IIIZ)V"⟩, 8), (⟨"LeapJoin", "nextFrom", "(I)I"⟩, 8), (⟨"LeapJoin", "leap", "(II)I"⟩, 8), (⟨"LeapJoin", "has", "(II)Z"⟩, 8), (⟨"LeapJoin", "allowedFrom", "(III)I"⟩, 8), (⟨"LeapJoin", "nextOnDiagonal", "(II)I"⟩, 8), (⟨"LeapJoin", "nextWithAny", "(IIZ)I"⟩, 8), (⟨"LeapJoin", "tightUpTo", "(II)Z"⟩, 8), (⟨"LeapJoin", "code", "()I"⟩, 8), (⟨"LeapJoinModel", "relation", "(I)Z"⟩, 6), (⟨"LeapJoinModel", "thing", "(I)Z"⟩, 6), (⟨"LeapJoinModel", "in", "(III)Z"⟩, 6), (⟨"LeapJoinModel", "variable", "(I)Z"⟩, 6), (⟨"LeapJoinModel", "isAnswer", "(I)Z"⟩, 6), (⟨"LeapJoinModel", "of", "(II)I"⟩, 6)]
theorem lw_r1 : ∀ q ∈ lw_privs_1, lw_okq q := List.forall_mem_cons.mpr ⟨lw_p0, List.forall_mem_cons.mpr ⟨lw_p1, List.forall_mem_cons.mpr ⟨lw_p2, List.forall_mem_cons.mpr ⟨lw_p3, List.forall_mem_cons.mpr ⟨lw_p4, List.forall_mem_cons.mpr ⟨lw_p5, List.forall_mem_cons.mpr ⟨lw_p6, List.forall_mem_cons.mpr ⟨lw_p7, List.forall_mem_cons.mpr ⟨lw_p8, List.forall_mem_cons.mpr ⟨lw_p9, List.forall_mem_cons.mpr ⟨lw_p10, List.forall_mem_cons.mpr ⟨lw_p11, List.forall_mem_cons.mpr ⟨lw_p12, List.forall_mem_cons.mpr ⟨lw_p13, List.forall_mem_cons.mpr ⟨lw_p14, fun _ h => absurd h List.not_mem_nil⟩⟩⟩⟩⟩⟩⟩⟩⟩⟩⟩⟩⟩⟩⟩
def lw_privs : List (MethodName × Nat) := lw_privs_1
def lw_tbl : List Cond := k2_sels lw_privs ++ tables_1
theorem lw_privs_ok : ∀ q ∈ lw_privs, lw_okq q := lw_r1
-- ===== ONE list of words for every method: the tables' words that hold all through a run =====
def lw_all : List Cond := lw_tbl.filter goodWord
/-- a word of the tables by its place: claim/WORDS.tsv -/
theorem lw_w {w : Cond} (i : Nat) (h : lw_tbl[i]? = some w) (g : goodWord w = true) : w ∈ lw_all := List.mem_filter.mpr ⟨List.mem_of_getElem? h, g⟩
theorem lw_all_tbl {w : Cond} (h : w ∈ lw_all) : w ∈ lw_tbl := (List.mem_filter.mp h).1
theorem lw_self : GoodIn lw_all lw_all := fun w h => ⟨h, good_of_word (List.mem_filter.mp h).2⟩
/-- a class's field words, by their places -/
theorem lw_in (ws : List Cond) (ps : List Nat) (hp : ws = ps.filterMap (fun i => lw_tbl[i]?)) (hg : ws.all goodWord = true) : ∀ w ∈ ws, w ∈ lw_all := by
  intro w h
  have h1 := List.all_eq_true.mp hg w h
  rw [hp] at h
  obtain ⟨i, -, hi⟩ := List.mem_filterMap.mp h
  exact lw_w i hi h1
/-- the words of a contract for the method y with code b, L locals, answer r -/
abbrev ws_ (y : MethodName) (b : ByteArray) (L : Nat) (r : Option FieldType) : List Cond := Cond.code y b L r :: lw_all
theorem lw_meth {y : MethodName} {b : ByteArray} {L : Nat} {r : Option FieldType} (h : Cond.code y b L r ∈ lw_all) : GoodIn lw_all (ws_ y b L r) := by
  intro w hw
  rcases List.mem_cons.mp hw with e | e
  · rw [e]
    exact lw_self _ h
  · exact lw_self _ e
theorem lw_app {a c : List Cond} (ha : ∀ w ∈ a, w ∈ lw_all) (hc : GoodIn lw_all c) : GoodIn lw_all (a ++ c) := by
  intro w hw
  rcases List.mem_append.mp hw with e | e
  · exact lw_self w (ha w e)
  · exact hc w e
/-- what a call through an object asks: cwV n hts (lw_V ..) -/
theorem lw_V {own : String} {idx : Nat} {C : String} {y : MethodName} {b : ByteArray} {L : Nat} {r : Option FieldType} (h1 : Cond.methodLink own idx y ∈ lw_all) (h2 : Cond.instanceMethod y ∈ lw_all) (h3 : Cond.selects C y y ∈ lw_all) (h4 : Cond.initialized C ∈ lw_all) (h5 : Cond.code y b L r ∈ lw_all) : GoodIn lw_all (wsV own idx C y (ws_ y b L r)) := by
  refine lw_app ?_ (lw_meth h5)
  intro w hw
  simp only [List.mem_cons, List.not_mem_nil, or_false] at hw
  rcases hw with e | e | e | e
  · rw [e]; exact h1
  · rw [e]; exact h2
  · rw [e]; exact h3
  · rw [e]; exact h4
/-- what a static call asks: va_cwS n hts (lw_S ..) -/
theorem lw_S {own : String} {idx : Nat} {y : MethodName} {b : ByteArray} {L : Nat} {r : Option FieldType} (h1 : Cond.methodLink own idx y ∈ lw_all) (h2 : Cond.static y ∈ lw_all) (h3 : Cond.initialized y.cls ∈ lw_all) (h4 : Cond.code y b L r ∈ lw_all) : GoodIn lw_all (va_wsS own idx y (ws_ y b L r)) := by
  refine lw_app ?_ (lw_meth h4)
  intro w hw
  simp only [List.mem_cons, List.not_mem_nil, or_false] at hw
  rcases hw with e | e | e
  · rw [e]; exact h1
  · rw [e]; exact h2
  · rw [e]; exact h3
/-- the words of a contract for a method WITH HANDLERS (hh: its table) -/
abbrev wsW_ (y : MethodName) (b : ByteArray) (L : Nat) (r : Option FieldType) (hh : List (Nat × Nat × Nat × Nat)) : List Cond := Cond.codeWith y b L r hh :: lw_all
theorem lw_methW {y : MethodName} {b : ByteArray} {L : Nat} {r : Option FieldType} {hh : List (Nat × Nat × Nat × Nat)} (h : Cond.codeWith y b L r hh ∈ lw_all) : GoodIn lw_all (wsW_ y b L r hh) := by
  intro w hw
  rcases List.mem_cons.mp hw with e | e
  · rw [e]
    exact lw_self _ h
  · exact lw_self _ e
/-- any list of words by their places (lw_in), good -/
theorem lw_good {ws : List Cond} (h : ∀ w ∈ ws, w ∈ lw_all) : GoodIn lw_all ws := fun w hw => lw_self w (h w hw)
/-- what a call of a method with handlers asks: vx_cwVW n hts (lw_VW ..), vx_cwSW n hts (lw_SW ..) -/
theorem lw_VW {own : String} {idx : Nat} {C : String} {y : MethodName} {b : ByteArray} {L : Nat} {r : Option FieldType} {hh : List (Nat × Nat × Nat × Nat)} (h1 : Cond.methodLink own idx y ∈ lw_all) (h2 : Cond.instanceMethod y ∈ lw_all) (h3 : Cond.selects C y y ∈ lw_all) (h4 : Cond.initialized C ∈ lw_all) (h5 : Cond.codeWith y b L r hh ∈ lw_all) : GoodIn lw_all (wsV own idx C y (wsW_ y b L r hh)) := by
  refine lw_app ?_ (lw_methW h5)
  intro w hw
  simp only [List.mem_cons, List.not_mem_nil, or_false] at hw
  rcases hw with e | e | e | e
  · rw [e]; exact h1
  · rw [e]; exact h2
  · rw [e]; exact h3
  · rw [e]; exact h4
theorem lw_SW {own : String} {idx : Nat} {y : MethodName} {b : ByteArray} {L : Nat} {r : Option FieldType} {hh : List (Nat × Nat × Nat × Nat)} (h1 : Cond.methodLink own idx y ∈ lw_all) (h2 : Cond.static y ∈ lw_all) (h3 : Cond.initialized y.cls ∈ lw_all) (h4 : Cond.codeWith y b L r hh ∈ lw_all) : GoodIn lw_all (va_wsS own idx y (wsW_ y b L r hh)) := by
  refine lw_app ?_ (lw_methW h4)
  intro w hw
  simp only [List.mem_cons, List.not_mem_nil, or_false] at hw
  rcases hw with e | e | e
  · rw [e]; exact h1
  · rw [e]; exact h2
  · rw [e]; exact h3
/-- a word by its place in its run of the tables -/
theorem lw_at {r : List Cond} (hr : ∀ w ∈ r, w ∈ lw_tbl) {w : Cond} (i : Nat) (h : r[i]? = some w) : w ∈ lw_tbl := hr w (List.mem_of_getElem? h)
theorem lw_g {w : Cond} (h : w ∈ lw_tbl) (g : goodWord w = true) : w ∈ lw_all := List.mem_filter.mpr ⟨h, g⟩
theorem lw_ms : ∀ w ∈ k2_sels lw_privs, w ∈ lw_tbl := fun w h => show w ∈ k2_sels lw_privs ++ tables_1 from List.mem_append_left _ h
theorem lw_m1 : ∀ w ∈ tables_1_1, w ∈ lw_tbl := fun w h => show w ∈ k2_sels lw_privs ++ tables_1 from List.mem_append_right (k2_sels lw_privs) (show w ∈ tables_1 from List.mem_append_left _ h)
theorem lw_m2 : ∀ w ∈ tables_1_2, w ∈ lw_tbl := fun w h => show w ∈ k2_sels lw_privs ++ tables_1 from List.mem_append_right (k2_sels lw_privs) (show w ∈ tables_1 from List.mem_append_right _ h)
theorem qs0 : (Cond.selects "LeapJoin" ⟨"LeapJoin", "put", "(IIIZ)V"⟩ ⟨"LeapJoin", "put", "(IIIZ)V"⟩) ∈ lw_all := lw_g (lw_at lw_ms 0 rfl) rfl
theorem qs1 : (Cond.selects "LeapJoin" ⟨"LeapJoin", "nextFrom", "(I)I"⟩ ⟨"LeapJoin", "nextFrom", "(I)I"⟩) ∈ lw_all := lw_g (lw_at lw_ms 1 rfl) rfl
theorem qs2 : (Cond.selects "LeapJoin" ⟨"LeapJoin", "leap", "(II)I"⟩ ⟨"LeapJoin", "leap", "(II)I"⟩) ∈ lw_all := lw_g (lw_at lw_ms 2 rfl) rfl
theorem qs3 : (Cond.selects "LeapJoin" ⟨"LeapJoin", "has", "(II)Z"⟩ ⟨"LeapJoin", "has", "(II)Z"⟩) ∈ lw_all := lw_g (lw_at lw_ms 3 rfl) rfl
theorem qs4 : (Cond.selects "LeapJoin" ⟨"LeapJoin", "allowedFrom", "(III)I"⟩ ⟨"LeapJoin", "allowedFrom", "(III)I"⟩) ∈ lw_all := lw_g (lw_at lw_ms 4 rfl) rfl
theorem qs5 : (Cond.selects "LeapJoin" ⟨"LeapJoin", "nextOnDiagonal", "(II)I"⟩ ⟨"LeapJoin", "nextOnDiagonal", "(II)I"⟩) ∈ lw_all := lw_g (lw_at lw_ms 5 rfl) rfl
theorem qs6 : (Cond.selects "LeapJoin" ⟨"LeapJoin", "nextWithAny", "(IIZ)I"⟩ ⟨"LeapJoin", "nextWithAny", "(IIZ)I"⟩) ∈ lw_all := lw_g (lw_at lw_ms 6 rfl) rfl
theorem qs7 : (Cond.selects "LeapJoin" ⟨"LeapJoin", "tightUpTo", "(II)Z"⟩ ⟨"LeapJoin", "tightUpTo", "(II)Z"⟩) ∈ lw_all := lw_g (lw_at lw_ms 7 rfl) rfl
theorem qs8 : (Cond.selects "LeapJoin" ⟨"LeapJoin", "code", "()I"⟩ ⟨"LeapJoin", "code", "()I"⟩) ∈ lw_all := lw_g (lw_at lw_ms 8 rfl) rfl
theorem qs9 : (Cond.selects "LeapJoinModel" ⟨"LeapJoinModel", "relation", "(I)Z"⟩ ⟨"LeapJoinModel", "relation", "(I)Z"⟩) ∈ lw_all := lw_g (lw_at lw_ms 9 rfl) rfl
theorem qs10 : (Cond.selects "LeapJoinModel" ⟨"LeapJoinModel", "thing", "(I)Z"⟩ ⟨"LeapJoinModel", "thing", "(I)Z"⟩) ∈ lw_all := lw_g (lw_at lw_ms 10 rfl) rfl
theorem qs11 : (Cond.selects "LeapJoinModel" ⟨"LeapJoinModel", "in", "(III)Z"⟩ ⟨"LeapJoinModel", "in", "(III)Z"⟩) ∈ lw_all := lw_g (lw_at lw_ms 11 rfl) rfl
theorem qs12 : (Cond.selects "LeapJoinModel" ⟨"LeapJoinModel", "variable", "(I)Z"⟩ ⟨"LeapJoinModel", "variable", "(I)Z"⟩) ∈ lw_all := lw_g (lw_at lw_ms 12 rfl) rfl
theorem qs13 : (Cond.selects "LeapJoinModel" ⟨"LeapJoinModel", "isAnswer", "(I)Z"⟩ ⟨"LeapJoinModel", "isAnswer", "(I)Z"⟩) ∈ lw_all := lw_g (lw_at lw_ms 13 rfl) rfl
theorem qs14 : (Cond.selects "LeapJoinModel" ⟨"LeapJoinModel", "of", "(II)I"⟩ ⟨"LeapJoinModel", "of", "(II)I"⟩) ∈ lw_all := lw_g (lw_at lw_ms 14 rfl) rfl
end
section
set_option maxRecDepth 100000
def RX0 : String := "LeapJoin"
def TX0 : u_T := fun k => match k with
  | 0 => ("LeapJoin", "onward", "[S", true)
  | 1 => ("LeapJoin", "backward", "[S", true)
  | 2 => ("LeapJoin", "relationOf", "[B", true)
  | 3 => ("LeapJoin", "firstOf", "[B", true)
  | 4 => ("LeapJoin", "secondOf", "[B", true)
  | 5 => ("LeapJoin", "atoms", "I", false)
  | 6 => ("LeapJoin", "thing", "[B", true)
  | _ => ("LeapJoin", "least", "[B", true)
def tyX0 : Nat → FieldType := fun k => match k with
  | 0 => .array .short
  | 1 => .array .short
  | 2 => .array .byte
  | 3 => .array .byte
  | 4 => .array .byte
  | 5 => .int
  | 6 => .array .byte
  | _ => .array .byte
abbrev wsX00 : List Cond := u_ws RX0 TX0 8
theorem nmX0 : ∀ a, a < 8 → ∀ b, b < 8 → a ≠ b → (TX0 a).2.1 ≠ (TX0 b).2.1 := by decide +kernel
theorem tyX0_ok : ∀ k, k < 8 → parseFieldDescriptor (TX0 k).2.2.1 = some (tyX0 k) := by decide +kernel
abbrev cX0_init : ByteArray := prog_1_method_1_code
def yX0_init : MethodName := ⟨RX0, "<init>", "()V"⟩
theorem dX0_init_0 : decode cX0_init 0 = .ok (.aload_n 0, 1) := by decide +kernel
theorem dX0_init_1 : decode cX0_init 1 = .ok (.invokespecial 1, 3) := by decide +kernel
theorem dX0_init_4 : decode cX0_init 4 = .ok (.aload_n 0, 1) := by decide +kernel
theorem dX0_init_5 : decode cX0_init 5 = .ok (.bipush 24, 2) := by decide +kernel
theorem dX0_init_7 : decode cX0_init 7 = .ok (.newarray .short, 2) := by decide +kernel
theorem dX0_init_9 : decode cX0_init 9 = .ok (.putfield 7, 3) := by decide +kernel
theorem dX0_init_12 : decode cX0_init 12 = .ok (.aload_n 0, 1) := by decide +kernel
theorem dX0_init_13 : decode cX0_init 13 = .ok (.bipush 24, 2) := by decide +kernel
theorem dX0_init_15 : decode cX0_init 15 = .ok (.newarray .short, 2) := by decide +kernel
theorem dX0_init_17 : decode cX0_init 17 = .ok (.putfield 13, 3) := by decide +kernel
theorem dX0_init_20 : decode cX0_init 20 = .ok (.aload_n 0, 1) := by decide +kernel
theorem dX0_init_21 : decode cX0_init 21 = .ok (.iconst 5, 1) := by decide +kernel
theorem dX0_init_22 : decode cX0_init 22 = .ok (.newarray .byte, 2) := by decide +kernel
theorem dX0_init_24 : decode cX0_init 24 = .ok (.putfield 16, 3) := by decide +kernel
theorem dX0_init_27 : decode cX0_init 27 = .ok (.aload_n 0, 1) := by decide +kernel
theorem dX0_init_28 : decode cX0_init 28 = .ok (.iconst 5, 1) := by decide +kernel
theorem dX0_init_29 : decode cX0_init 29 = .ok (.newarray .byte, 2) := by decide +kernel
theorem dX0_init_31 : decode cX0_init 31 = .ok (.putfield 20, 3) := by decide +kernel
theorem dX0_init_34 : decode cX0_init 34 = .ok (.aload_n 0, 1) := by decide +kernel
theorem dX0_init_35 : decode cX0_init 35 = .ok (.iconst 5, 1) := by decide +kernel
theorem dX0_init_36 : decode cX0_init 36 = .ok (.newarray .byte, 2) := by decide +kernel
theorem dX0_init_38 : decode cX0_init 38 = .ok (.putfield 23, 3) := by decide +kernel
theorem dX0_init_41 : decode cX0_init 41 = .ok (.aload_n 0, 1) := by decide +kernel
theorem dX0_init_42 : decode cX0_init 42 = .ok (.iconst 4, 1) := by decide +kernel
theorem dX0_init_43 : decode cX0_init 43 = .ok (.newarray .byte, 2) := by decide +kernel
theorem dX0_init_45 : decode cX0_init 45 = .ok (.putfield 26, 3) := by decide +kernel
theorem dX0_init_48 : decode cX0_init 48 = .ok (.aload_n 0, 1) := by decide +kernel
theorem dX0_init_49 : decode cX0_init 49 = .ok (.iconst 4, 1) := by decide +kernel
theorem dX0_init_50 : decode cX0_init 50 = .ok (.newarray .byte, 2) := by decide +kernel
theorem dX0_init_52 : decode cX0_init 52 = .ok (.putfield 29, 3) := by decide +kernel
theorem dX0_init_55 : decode cX0_init 55 = .ok (.return_, 1) := by decide +kernel
abbrev cX0_pair : ByteArray := prog_1_method_8_code
def yX0_pair : MethodName := ⟨RX0, "pair", "(IIIZ)Z"⟩
theorem dX0_pair_0 : decode cX0_pair 0 = .ok (.iload_n 1, 1) := by decide +kernel
theorem dX0_pair_1 : decode cX0_pair 1 = .ok (.invokestatic 32, 3) := by decide +kernel
theorem dX0_pair_4 : decode cX0_pair 4 = .ok (.ifCond .eq 17, 3) := by decide +kernel
theorem dX0_pair_7 : decode cX0_pair 7 = .ok (.iload_n 2, 1) := by decide +kernel
theorem dX0_pair_8 : decode cX0_pair 8 = .ok (.invokestatic 36, 3) := by decide +kernel
theorem dX0_pair_11 : decode cX0_pair 11 = .ok (.ifCond .eq 10, 3) := by decide +kernel
theorem dX0_pair_14 : decode cX0_pair 14 = .ok (.iload_n 3, 1) := by decide +kernel
theorem dX0_pair_15 : decode cX0_pair 15 = .ok (.invokestatic 36, 3) := by decide +kernel
theorem dX0_pair_18 : decode cX0_pair 18 = .ok (.ifCond .ne 5, 3) := by decide +kernel
theorem dX0_pair_21 : decode cX0_pair 21 = .ok (.iconst 0, 1) := by decide +kernel
theorem dX0_pair_22 : decode cX0_pair 22 = .ok (.ireturn, 1) := by decide +kernel
theorem dX0_pair_23 : decode cX0_pair 23 = .ok (.aload_n 0, 1) := by decide +kernel
theorem dX0_pair_24 : decode cX0_pair 24 = .ok (.iload_n 1, 1) := by decide +kernel
theorem dX0_pair_25 : decode cX0_pair 25 = .ok (.iload_n 2, 1) := by decide +kernel
theorem dX0_pair_26 : decode cX0_pair 26 = .ok (.iload_n 3, 1) := by decide +kernel
theorem dX0_pair_27 : decode cX0_pair 27 = .ok (.iload 4, 2) := by decide +kernel
theorem dX0_pair_29 : decode cX0_pair 29 = .ok (.invokevirtual 39, 3) := by decide +kernel
theorem dX0_pair_32 : decode cX0_pair 32 = .ok (.iconst 1, 1) := by decide +kernel
theorem dX0_pair_33 : decode cX0_pair 33 = .ok (.ireturn, 1) := by decide +kernel
abbrev cX0_isRelation : ByteArray := prog_1_method_2_code
def yX0_isRelation : MethodName := ⟨RX0, "isRelation", "(I)Z"⟩
theorem dX0_isRelation_0 : decode cX0_isRelation 0 = .ok (.iload_n 0, 1) := by decide +kernel
theorem dX0_isRelation_1 : decode cX0_isRelation 1 = .ok (.ifCond .lt 12, 3) := by decide +kernel
theorem dX0_isRelation_4 : decode cX0_isRelation 4 = .ok (.iload_n 0, 1) := by decide +kernel
theorem dX0_isRelation_5 : decode cX0_isRelation 5 = .ok (.iconst 3, 1) := by decide +kernel
theorem dX0_isRelation_6 : decode cX0_isRelation 6 = .ok (.if_icmp .ge 7, 3) := by decide +kernel
theorem dX0_isRelation_9 : decode cX0_isRelation 9 = .ok (.iconst 1, 1) := by decide +kernel
theorem dX0_isRelation_10 : decode cX0_isRelation 10 = .ok (.goto 4, 3) := by decide +kernel
theorem dX0_isRelation_13 : decode cX0_isRelation 13 = .ok (.iconst 0, 1) := by decide +kernel
theorem dX0_isRelation_14 : decode cX0_isRelation 14 = .ok (.ireturn, 1) := by decide +kernel
abbrev cX0_isThing : ByteArray := prog_1_method_3_code
def yX0_isThing : MethodName := ⟨RX0, "isThing", "(I)Z"⟩
theorem dX0_isThing_0 : decode cX0_isThing 0 = .ok (.iload_n 0, 1) := by decide +kernel
theorem dX0_isThing_1 : decode cX0_isThing 1 = .ok (.ifCond .lt 13, 3) := by decide +kernel
theorem dX0_isThing_4 : decode cX0_isThing 4 = .ok (.iload_n 0, 1) := by decide +kernel
theorem dX0_isThing_5 : decode cX0_isThing 5 = .ok (.bipush 8, 2) := by decide +kernel
theorem dX0_isThing_7 : decode cX0_isThing 7 = .ok (.if_icmp .ge 7, 3) := by decide +kernel
theorem dX0_isThing_10 : decode cX0_isThing 10 = .ok (.iconst 1, 1) := by decide +kernel
theorem dX0_isThing_11 : decode cX0_isThing 11 = .ok (.goto 4, 3) := by decide +kernel
theorem dX0_isThing_14 : decode cX0_isThing 14 = .ok (.iconst 0, 1) := by decide +kernel
theorem dX0_isThing_15 : decode cX0_isThing 15 = .ok (.ireturn, 1) := by decide +kernel
abbrev cX0_put : ByteArray := prog_1_method_7_code
def yX0_put : MethodName := ⟨RX0, "put", "(IIIZ)V"⟩
theorem dX0_put_0 : decode cX0_put 0 = .ok (.iload_n 1, 1) := by decide +kernel
theorem dX0_put_1 : decode cX0_put 1 = .ok (.bipush 8, 2) := by decide +kernel
theorem dX0_put_3 : decode cX0_put 3 = .ok (.imul, 1) := by decide +kernel
theorem dX0_put_4 : decode cX0_put 4 = .ok (.iload_n 2, 1) := by decide +kernel
theorem dX0_put_5 : decode cX0_put 5 = .ok (.iadd, 1) := by decide +kernel
theorem dX0_put_6 : decode cX0_put 6 = .ok (.istore 5, 2) := by decide +kernel
theorem dX0_put_8 : decode cX0_put 8 = .ok (.iload_n 1, 1) := by decide +kernel
theorem dX0_put_9 : decode cX0_put 9 = .ok (.bipush 8, 2) := by decide +kernel
theorem dX0_put_11 : decode cX0_put 11 = .ok (.imul, 1) := by decide +kernel
theorem dX0_put_12 : decode cX0_put 12 = .ok (.iload_n 3, 1) := by decide +kernel
theorem dX0_put_13 : decode cX0_put 13 = .ok (.iadd, 1) := by decide +kernel
theorem dX0_put_14 : decode cX0_put 14 = .ok (.istore 6, 2) := by decide +kernel
theorem dX0_put_16 : decode cX0_put 16 = .ok (.aload_n 0, 1) := by decide +kernel
theorem dX0_put_17 : decode cX0_put 17 = .ok (.getfield 7, 3) := by decide +kernel
theorem dX0_put_20 : decode cX0_put 20 = .ok (.iload 5, 2) := by decide +kernel
theorem dX0_put_22 : decode cX0_put 22 = .ok (.iload 4, 2) := by decide +kernel
theorem dX0_put_24 : decode cX0_put 24 = .ok (.ifCond .eq 17, 3) := by decide +kernel
theorem dX0_put_27 : decode cX0_put 27 = .ok (.aload_n 0, 1) := by decide +kernel
theorem dX0_put_28 : decode cX0_put 28 = .ok (.getfield 7, 3) := by decide +kernel
theorem dX0_put_31 : decode cX0_put 31 = .ok (.iload 5, 2) := by decide +kernel
theorem dX0_put_33 : decode cX0_put 33 = .ok (.saload, 1) := by decide +kernel
theorem dX0_put_34 : decode cX0_put 34 = .ok (.iconst 1, 1) := by decide +kernel
theorem dX0_put_35 : decode cX0_put 35 = .ok (.iload_n 3, 1) := by decide +kernel
theorem dX0_put_36 : decode cX0_put 36 = .ok (.ishl, 1) := by decide +kernel
theorem dX0_put_37 : decode cX0_put 37 = .ok (.ior, 1) := by decide +kernel
theorem dX0_put_38 : decode cX0_put 38 = .ok (.goto 16, 3) := by decide +kernel
theorem dX0_put_41 : decode cX0_put 41 = .ok (.aload_n 0, 1) := by decide +kernel
theorem dX0_put_42 : decode cX0_put 42 = .ok (.getfield 7, 3) := by decide +kernel
theorem dX0_put_45 : decode cX0_put 45 = .ok (.iload 5, 2) := by decide +kernel
theorem dX0_put_47 : decode cX0_put 47 = .ok (.saload, 1) := by decide +kernel
theorem dX0_put_48 : decode cX0_put 48 = .ok (.iconst 1, 1) := by decide +kernel
theorem dX0_put_49 : decode cX0_put 49 = .ok (.iload_n 3, 1) := by decide +kernel
theorem dX0_put_50 : decode cX0_put 50 = .ok (.ishl, 1) := by decide +kernel
theorem dX0_put_51 : decode cX0_put 51 = .ok (.iconst (-1), 1) := by decide +kernel
theorem dX0_put_52 : decode cX0_put 52 = .ok (.ixor, 1) := by decide +kernel
theorem dX0_put_53 : decode cX0_put 53 = .ok (.iand, 1) := by decide +kernel
theorem dX0_put_54 : decode cX0_put 54 = .ok (.i2s, 1) := by decide +kernel
theorem dX0_put_55 : decode cX0_put 55 = .ok (.sastore, 1) := by decide +kernel
theorem dX0_put_56 : decode cX0_put 56 = .ok (.aload_n 0, 1) := by decide +kernel
theorem dX0_put_57 : decode cX0_put 57 = .ok (.getfield 13, 3) := by decide +kernel
theorem dX0_put_60 : decode cX0_put 60 = .ok (.iload 6, 2) := by decide +kernel
theorem dX0_put_62 : decode cX0_put 62 = .ok (.iload 4, 2) := by decide +kernel
theorem dX0_put_64 : decode cX0_put 64 = .ok (.ifCond .eq 17, 3) := by decide +kernel
theorem dX0_put_67 : decode cX0_put 67 = .ok (.aload_n 0, 1) := by decide +kernel
theorem dX0_put_68 : decode cX0_put 68 = .ok (.getfield 13, 3) := by decide +kernel
theorem dX0_put_71 : decode cX0_put 71 = .ok (.iload 6, 2) := by decide +kernel
theorem dX0_put_73 : decode cX0_put 73 = .ok (.saload, 1) := by decide +kernel
theorem dX0_put_74 : decode cX0_put 74 = .ok (.iconst 1, 1) := by decide +kernel
theorem dX0_put_75 : decode cX0_put 75 = .ok (.iload_n 2, 1) := by decide +kernel
theorem dX0_put_76 : decode cX0_put 76 = .ok (.ishl, 1) := by decide +kernel
theorem dX0_put_77 : decode cX0_put 77 = .ok (.ior, 1) := by decide +kernel
theorem dX0_put_78 : decode cX0_put 78 = .ok (.goto 16, 3) := by decide +kernel
theorem dX0_put_81 : decode cX0_put 81 = .ok (.aload_n 0, 1) := by decide +kernel
theorem dX0_put_82 : decode cX0_put 82 = .ok (.getfield 13, 3) := by decide +kernel
theorem dX0_put_85 : decode cX0_put 85 = .ok (.iload 6, 2) := by decide +kernel
theorem dX0_put_87 : decode cX0_put 87 = .ok (.saload, 1) := by decide +kernel
theorem dX0_put_88 : decode cX0_put 88 = .ok (.iconst 1, 1) := by decide +kernel
theorem dX0_put_89 : decode cX0_put 89 = .ok (.iload_n 2, 1) := by decide +kernel
theorem dX0_put_90 : decode cX0_put 90 = .ok (.ishl, 1) := by decide +kernel
theorem dX0_put_91 : decode cX0_put 91 = .ok (.iconst (-1), 1) := by decide +kernel
theorem dX0_put_92 : decode cX0_put 92 = .ok (.ixor, 1) := by decide +kernel
theorem dX0_put_93 : decode cX0_put 93 = .ok (.iand, 1) := by decide +kernel
theorem dX0_put_94 : decode cX0_put 94 = .ok (.i2s, 1) := by decide +kernel
theorem dX0_put_95 : decode cX0_put 95 = .ok (.sastore, 1) := by decide +kernel
theorem dX0_put_96 : decode cX0_put 96 = .ok (.return_, 1) := by decide +kernel
abbrev cX0_size : ByteArray := prog_1_method_9_code
def yX0_size : MethodName := ⟨RX0, "size", "(I)I"⟩
theorem dX0_size_0 : decode cX0_size 0 = .ok (.iload_n 1, 1) := by decide +kernel
theorem dX0_size_1 : decode cX0_size 1 = .ok (.invokestatic 32, 3) := by decide +kernel
theorem dX0_size_4 : decode cX0_size 4 = .ok (.ifCond .ne 5, 3) := by decide +kernel
theorem dX0_size_7 : decode cX0_size 7 = .ok (.iconst (-1), 1) := by decide +kernel
theorem dX0_size_8 : decode cX0_size 8 = .ok (.ireturn, 1) := by decide +kernel
theorem dX0_size_9 : decode cX0_size 9 = .ok (.iconst 0, 1) := by decide +kernel
theorem dX0_size_10 : decode cX0_size 10 = .ok (.istore_n 2, 1) := by decide +kernel
theorem dX0_size_11 : decode cX0_size 11 = .ok (.iconst 0, 1) := by decide +kernel
theorem dX0_size_12 : decode cX0_size 12 = .ok (.istore_n 3, 1) := by decide +kernel
theorem dX0_size_13 : decode cX0_size 13 = .ok (.iload_n 3, 1) := by decide +kernel
theorem dX0_size_14 : decode cX0_size 14 = .ok (.bipush 8, 2) := by decide +kernel
theorem dX0_size_16 : decode cX0_size 16 = .ok (.if_icmp .ge 26, 3) := by decide +kernel
theorem dX0_size_19 : decode cX0_size 19 = .ok (.iload_n 2, 1) := by decide +kernel
theorem dX0_size_20 : decode cX0_size 20 = .ok (.aload_n 0, 1) := by decide +kernel
theorem dX0_size_21 : decode cX0_size 21 = .ok (.getfield 7, 3) := by decide +kernel
theorem dX0_size_24 : decode cX0_size 24 = .ok (.iload_n 1, 1) := by decide +kernel
theorem dX0_size_25 : decode cX0_size 25 = .ok (.bipush 8, 2) := by decide +kernel
theorem dX0_size_27 : decode cX0_size 27 = .ok (.imul, 1) := by decide +kernel
theorem dX0_size_28 : decode cX0_size 28 = .ok (.iload_n 3, 1) := by decide +kernel
theorem dX0_size_29 : decode cX0_size 29 = .ok (.iadd, 1) := by decide +kernel
theorem dX0_size_30 : decode cX0_size 30 = .ok (.saload, 1) := by decide +kernel
theorem dX0_size_31 : decode cX0_size 31 = .ok (.invokestatic 43, 3) := by decide +kernel
theorem dX0_size_34 : decode cX0_size 34 = .ok (.iadd, 1) := by decide +kernel
theorem dX0_size_35 : decode cX0_size 35 = .ok (.istore_n 2, 1) := by decide +kernel
theorem dX0_size_36 : decode cX0_size 36 = .ok (.iinc 3 1, 3) := by decide +kernel
theorem dX0_size_39 : decode cX0_size 39 = .ok (.goto (-26), 3) := by decide +kernel
theorem dX0_size_42 : decode cX0_size 42 = .ok (.iload_n 2, 1) := by decide +kernel
theorem dX0_size_43 : decode cX0_size 43 = .ok (.ireturn, 1) := by decide +kernel
abbrev cX0_ones : ByteArray := prog_1_method_6_code
def yX0_ones : MethodName := ⟨RX0, "ones", "(I)I"⟩
theorem dX0_ones_0 : decode cX0_ones 0 = .ok (.iconst 0, 1) := by decide +kernel
theorem dX0_ones_1 : decode cX0_ones 1 = .ok (.istore_n 1, 1) := by decide +kernel
theorem dX0_ones_2 : decode cX0_ones 2 = .ok (.iconst 0, 1) := by decide +kernel
theorem dX0_ones_3 : decode cX0_ones 3 = .ok (.istore_n 2, 1) := by decide +kernel
theorem dX0_ones_4 : decode cX0_ones 4 = .ok (.iload_n 2, 1) := by decide +kernel
theorem dX0_ones_5 : decode cX0_ones 5 = .ok (.bipush 8, 2) := by decide +kernel
theorem dX0_ones_7 : decode cX0_ones 7 = .ok (.if_icmp .ge 17, 3) := by decide +kernel
theorem dX0_ones_10 : decode cX0_ones 10 = .ok (.iload_n 1, 1) := by decide +kernel
theorem dX0_ones_11 : decode cX0_ones 11 = .ok (.iload_n 0, 1) := by decide +kernel
theorem dX0_ones_12 : decode cX0_ones 12 = .ok (.iload_n 2, 1) := by decide +kernel
theorem dX0_ones_13 : decode cX0_ones 13 = .ok (.ishr, 1) := by decide +kernel
theorem dX0_ones_14 : decode cX0_ones 14 = .ok (.iconst 1, 1) := by decide +kernel
theorem dX0_ones_15 : decode cX0_ones 15 = .ok (.iand, 1) := by decide +kernel
theorem dX0_ones_16 : decode cX0_ones 16 = .ok (.iadd, 1) := by decide +kernel
theorem dX0_ones_17 : decode cX0_ones 17 = .ok (.istore_n 1, 1) := by decide +kernel
theorem dX0_ones_18 : decode cX0_ones 18 = .ok (.iinc 2 1, 3) := by decide +kernel
theorem dX0_ones_21 : decode cX0_ones 21 = .ok (.goto (-17), 3) := by decide +kernel
theorem dX0_ones_24 : decode cX0_ones 24 = .ok (.iload_n 1, 1) := by decide +kernel
theorem dX0_ones_25 : decode cX0_ones 25 = .ok (.ireturn, 1) := by decide +kernel
abbrev cX0_atom : ByteArray := prog_1_method_10_code
def yX0_atom : MethodName := ⟨RX0, "atom", "(III)I"⟩
theorem dX0_atom_0 : decode cX0_atom 0 = .ok (.iload_n 1, 1) := by decide +kernel
theorem dX0_atom_1 : decode cX0_atom 1 = .ok (.invokestatic 32, 3) := by decide +kernel
theorem dX0_atom_4 : decode cX0_atom 4 = .ok (.ifCond .eq 17, 3) := by decide +kernel
theorem dX0_atom_7 : decode cX0_atom 7 = .ok (.iload_n 2, 1) := by decide +kernel
theorem dX0_atom_8 : decode cX0_atom 8 = .ok (.invokestatic 47, 3) := by decide +kernel
theorem dX0_atom_11 : decode cX0_atom 11 = .ok (.ifCond .eq 10, 3) := by decide +kernel
theorem dX0_atom_14 : decode cX0_atom 14 = .ok (.iload_n 3, 1) := by decide +kernel
theorem dX0_atom_15 : decode cX0_atom 15 = .ok (.invokestatic 47, 3) := by decide +kernel
theorem dX0_atom_18 : decode cX0_atom 18 = .ok (.ifCond .ne 5, 3) := by decide +kernel
theorem dX0_atom_21 : decode cX0_atom 21 = .ok (.iconst (-1), 1) := by decide +kernel
theorem dX0_atom_22 : decode cX0_atom 22 = .ok (.ireturn, 1) := by decide +kernel
theorem dX0_atom_23 : decode cX0_atom 23 = .ok (.aload_n 0, 1) := by decide +kernel
theorem dX0_atom_24 : decode cX0_atom 24 = .ok (.getfield 50, 3) := by decide +kernel
theorem dX0_atom_27 : decode cX0_atom 27 = .ok (.iconst 5, 1) := by decide +kernel
theorem dX0_atom_28 : decode cX0_atom 28 = .ok (.if_icmp .lt 6, 3) := by decide +kernel
theorem dX0_atom_31 : decode cX0_atom 31 = .ok (.bipush (-2), 2) := by decide +kernel
theorem dX0_atom_33 : decode cX0_atom 33 = .ok (.ireturn, 1) := by decide +kernel
theorem dX0_atom_34 : decode cX0_atom 34 = .ok (.aload_n 0, 1) := by decide +kernel
theorem dX0_atom_35 : decode cX0_atom 35 = .ok (.getfield 16, 3) := by decide +kernel
theorem dX0_atom_38 : decode cX0_atom 38 = .ok (.aload_n 0, 1) := by decide +kernel
theorem dX0_atom_39 : decode cX0_atom 39 = .ok (.getfield 50, 3) := by decide +kernel
theorem dX0_atom_42 : decode cX0_atom 42 = .ok (.iload_n 1, 1) := by decide +kernel
theorem dX0_atom_43 : decode cX0_atom 43 = .ok (.i2b, 1) := by decide +kernel
theorem dX0_atom_44 : decode cX0_atom 44 = .ok (.bastore, 1) := by decide +kernel
theorem dX0_atom_45 : decode cX0_atom 45 = .ok (.aload_n 0, 1) := by decide +kernel
theorem dX0_atom_46 : decode cX0_atom 46 = .ok (.getfield 20, 3) := by decide +kernel
theorem dX0_atom_49 : decode cX0_atom 49 = .ok (.aload_n 0, 1) := by decide +kernel
theorem dX0_atom_50 : decode cX0_atom 50 = .ok (.getfield 50, 3) := by decide +kernel
theorem dX0_atom_53 : decode cX0_atom 53 = .ok (.iload_n 2, 1) := by decide +kernel
theorem dX0_atom_54 : decode cX0_atom 54 = .ok (.i2b, 1) := by decide +kernel
theorem dX0_atom_55 : decode cX0_atom 55 = .ok (.bastore, 1) := by decide +kernel
theorem dX0_atom_56 : decode cX0_atom 56 = .ok (.aload_n 0, 1) := by decide +kernel
theorem dX0_atom_57 : decode cX0_atom 57 = .ok (.getfield 23, 3) := by decide +kernel
theorem dX0_atom_60 : decode cX0_atom 60 = .ok (.aload_n 0, 1) := by decide +kernel
theorem dX0_atom_61 : decode cX0_atom 61 = .ok (.getfield 50, 3) := by decide +kernel
theorem dX0_atom_64 : decode cX0_atom 64 = .ok (.iload_n 3, 1) := by decide +kernel
theorem dX0_atom_65 : decode cX0_atom 65 = .ok (.i2b, 1) := by decide +kernel
theorem dX0_atom_66 : decode cX0_atom 66 = .ok (.bastore, 1) := by decide +kernel
theorem dX0_atom_67 : decode cX0_atom 67 = .ok (.aload_n 0, 1) := by decide +kernel
theorem dX0_atom_68 : decode cX0_atom 68 = .ok (.dup, 1) := by decide +kernel
theorem dX0_atom_69 : decode cX0_atom 69 = .ok (.getfield 50, 3) := by decide +kernel
theorem dX0_atom_72 : decode cX0_atom 72 = .ok (.iconst 1, 1) := by decide +kernel
theorem dX0_atom_73 : decode cX0_atom 73 = .ok (.iadd, 1) := by decide +kernel
theorem dX0_atom_74 : decode cX0_atom 74 = .ok (.putfield 50, 3) := by decide +kernel
theorem dX0_atom_77 : decode cX0_atom 77 = .ok (.aload_n 0, 1) := by decide +kernel
theorem dX0_atom_78 : decode cX0_atom 78 = .ok (.getfield 50, 3) := by decide +kernel
theorem dX0_atom_81 : decode cX0_atom 81 = .ok (.ireturn, 1) := by decide +kernel
abbrev cX0_isVariable : ByteArray := prog_1_method_4_code
def yX0_isVariable : MethodName := ⟨RX0, "isVariable", "(I)Z"⟩
theorem dX0_isVariable_0 : decode cX0_isVariable 0 = .ok (.iload_n 0, 1) := by decide +kernel
theorem dX0_isVariable_1 : decode cX0_isVariable 1 = .ok (.ifCond .lt 12, 3) := by decide +kernel
theorem dX0_isVariable_4 : decode cX0_isVariable 4 = .ok (.iload_n 0, 1) := by decide +kernel
theorem dX0_isVariable_5 : decode cX0_isVariable 5 = .ok (.iconst 4, 1) := by decide +kernel
theorem dX0_isVariable_6 : decode cX0_isVariable 6 = .ok (.if_icmp .ge 7, 3) := by decide +kernel
theorem dX0_isVariable_9 : decode cX0_isVariable 9 = .ok (.iconst 1, 1) := by decide +kernel
theorem dX0_isVariable_10 : decode cX0_isVariable 10 = .ok (.goto 4, 3) := by decide +kernel
theorem dX0_isVariable_13 : decode cX0_isVariable 13 = .ok (.iconst 0, 1) := by decide +kernel
theorem dX0_isVariable_14 : decode cX0_isVariable 14 = .ok (.ireturn, 1) := by decide +kernel
abbrev cX0_drop : ByteArray := prog_1_method_11_code
def yX0_drop : MethodName := ⟨RX0, "drop", "()I"⟩
theorem dX0_drop_0 : decode cX0_drop 0 = .ok (.aload_n 0, 1) := by decide +kernel
theorem dX0_drop_1 : decode cX0_drop 1 = .ok (.getfield 50, 3) := by decide +kernel
theorem dX0_drop_4 : decode cX0_drop 4 = .ok (.ifCond .ne 5, 3) := by decide +kernel
theorem dX0_drop_7 : decode cX0_drop 7 = .ok (.iconst (-1), 1) := by decide +kernel
theorem dX0_drop_8 : decode cX0_drop 8 = .ok (.ireturn, 1) := by decide +kernel
theorem dX0_drop_9 : decode cX0_drop 9 = .ok (.aload_n 0, 1) := by decide +kernel
theorem dX0_drop_10 : decode cX0_drop 10 = .ok (.dup, 1) := by decide +kernel
theorem dX0_drop_11 : decode cX0_drop 11 = .ok (.getfield 50, 3) := by decide +kernel
theorem dX0_drop_14 : decode cX0_drop 14 = .ok (.iconst 1, 1) := by decide +kernel
theorem dX0_drop_15 : decode cX0_drop 15 = .ok (.isub, 1) := by decide +kernel
theorem dX0_drop_16 : decode cX0_drop 16 = .ok (.putfield 50, 3) := by decide +kernel
theorem dX0_drop_19 : decode cX0_drop 19 = .ok (.aload_n 0, 1) := by decide +kernel
theorem dX0_drop_20 : decode cX0_drop 20 = .ok (.getfield 50, 3) := by decide +kernel
theorem dX0_drop_23 : decode cX0_drop 23 = .ok (.ireturn, 1) := by decide +kernel
abbrev cX0_count : ByteArray := prog_1_method_22_code
def yX0_count : MethodName := ⟨RX0, "count", "()I"⟩
theorem dX0_count_0 : decode cX0_count 0 = .ok (.iconst 0, 1) := by decide +kernel
theorem dX0_count_1 : decode cX0_count 1 = .ok (.istore_n 1, 1) := by decide +kernel
theorem dX0_count_2 : decode cX0_count 2 = .ok (.aload_n 0, 1) := by decide +kernel
theorem dX0_count_3 : decode cX0_count 3 = .ok (.iconst 0, 1) := by decide +kernel
theorem dX0_count_4 : decode cX0_count 4 = .ok (.invokevirtual 89, 3) := by decide +kernel
theorem dX0_count_7 : decode cX0_count 7 = .ok (.istore_n 2, 1) := by decide +kernel
theorem dX0_count_8 : decode cX0_count 8 = .ok (.iconst 0, 1) := by decide +kernel
theorem dX0_count_9 : decode cX0_count 9 = .ok (.istore_n 3, 1) := by decide +kernel
theorem dX0_count_10 : decode cX0_count 10 = .ok (.iload_n 3, 1) := by decide +kernel
theorem dX0_count_11 : decode cX0_count 11 = .ok (.sipush 4096, 3) := by decide +kernel
theorem dX0_count_14 : decode cX0_count 14 = .ok (.if_icmp .ge 24, 3) := by decide +kernel
theorem dX0_count_17 : decode cX0_count 17 = .ok (.iload_n 2, 1) := by decide +kernel
theorem dX0_count_18 : decode cX0_count 18 = .ok (.ifCond .lt 20, 3) := by decide +kernel
theorem dX0_count_21 : decode cX0_count 21 = .ok (.iinc 1 1, 3) := by decide +kernel
theorem dX0_count_24 : decode cX0_count 24 = .ok (.aload_n 0, 1) := by decide +kernel
theorem dX0_count_25 : decode cX0_count 25 = .ok (.iload_n 2, 1) := by decide +kernel
theorem dX0_count_26 : decode cX0_count 26 = .ok (.iconst 1, 1) := by decide +kernel
theorem dX0_count_27 : decode cX0_count 27 = .ok (.iadd, 1) := by decide +kernel
theorem dX0_count_28 : decode cX0_count 28 = .ok (.invokevirtual 89, 3) := by decide +kernel
theorem dX0_count_31 : decode cX0_count 31 = .ok (.istore_n 2, 1) := by decide +kernel
theorem dX0_count_32 : decode cX0_count 32 = .ok (.iinc 3 1, 3) := by decide +kernel
theorem dX0_count_35 : decode cX0_count 35 = .ok (.goto (-25), 3) := by decide +kernel
theorem dX0_count_38 : decode cX0_count 38 = .ok (.iload_n 1, 1) := by decide +kernel
theorem dX0_count_39 : decode cX0_count 39 = .ok (.ireturn, 1) := by decide +kernel
abbrev cX0_nextFrom : ByteArray := prog_1_method_18_code
def yX0_nextFrom : MethodName := ⟨RX0, "nextFrom", "(I)I"⟩
theorem dX0_nextFrom_0 : decode cX0_nextFrom 0 = .ok (.iload_n 1, 1) := by decide +kernel
theorem dX0_nextFrom_1 : decode cX0_nextFrom 1 = .ok (.sipush 4096, 3) := by decide +kernel
theorem dX0_nextFrom_4 : decode cX0_nextFrom 4 = .ok (.if_icmp .lt 5, 3) := by decide +kernel
theorem dX0_nextFrom_7 : decode cX0_nextFrom 7 = .ok (.iconst (-1), 1) := by decide +kernel
theorem dX0_nextFrom_8 : decode cX0_nextFrom 8 = .ok (.ireturn, 1) := by decide +kernel
theorem dX0_nextFrom_9 : decode cX0_nextFrom 9 = .ok (.iload_n 1, 1) := by decide +kernel
theorem dX0_nextFrom_10 : decode cX0_nextFrom 10 = .ok (.ifCond .ge 7, 3) := by decide +kernel
theorem dX0_nextFrom_13 : decode cX0_nextFrom 13 = .ok (.iconst 0, 1) := by decide +kernel
theorem dX0_nextFrom_14 : decode cX0_nextFrom 14 = .ok (.goto 4, 3) := by decide +kernel
theorem dX0_nextFrom_17 : decode cX0_nextFrom 17 = .ok (.iload_n 1, 1) := by decide +kernel
theorem dX0_nextFrom_18 : decode cX0_nextFrom 18 = .ok (.istore_n 2, 1) := by decide +kernel
theorem dX0_nextFrom_19 : decode cX0_nextFrom 19 = .ok (.iconst 0, 1) := by decide +kernel
theorem dX0_nextFrom_20 : decode cX0_nextFrom 20 = .ok (.istore_n 3, 1) := by decide +kernel
theorem dX0_nextFrom_21 : decode cX0_nextFrom 21 = .ok (.aload_n 0, 1) := by decide +kernel
theorem dX0_nextFrom_22 : decode cX0_nextFrom 22 = .ok (.getfield 29, 3) := by decide +kernel
theorem dX0_nextFrom_25 : decode cX0_nextFrom 25 = .ok (.iconst 0, 1) := by decide +kernel
theorem dX0_nextFrom_26 : decode cX0_nextFrom 26 = .ok (.iload_n 2, 1) := by decide +kernel
theorem dX0_nextFrom_27 : decode cX0_nextFrom 27 = .ok (.iconst 0, 1) := by decide +kernel
theorem dX0_nextFrom_28 : decode cX0_nextFrom 28 = .ok (.invokestatic 76, 3) := by decide +kernel
theorem dX0_nextFrom_31 : decode cX0_nextFrom 31 = .ok (.i2b, 1) := by decide +kernel
theorem dX0_nextFrom_32 : decode cX0_nextFrom 32 = .ok (.bastore, 1) := by decide +kernel
theorem dX0_nextFrom_33 : decode cX0_nextFrom 33 = .ok (.iconst 0, 1) := by decide +kernel
theorem dX0_nextFrom_34 : decode cX0_nextFrom 34 = .ok (.istore 4, 2) := by decide +kernel
theorem dX0_nextFrom_36 : decode cX0_nextFrom 36 = .ok (.iload 4, 2) := by decide +kernel
theorem dX0_nextFrom_38 : decode cX0_nextFrom 38 = .ok (.sipush 16384, 3) := by decide +kernel
theorem dX0_nextFrom_41 : decode cX0_nextFrom 41 = .ok (.if_icmp .ge 107, 3) := by decide +kernel
theorem dX0_nextFrom_44 : decode cX0_nextFrom 44 = .ok (.aload_n 0, 1) := by decide +kernel
theorem dX0_nextFrom_45 : decode cX0_nextFrom 45 = .ok (.iload_n 3, 1) := by decide +kernel
theorem dX0_nextFrom_46 : decode cX0_nextFrom 46 = .ok (.aload_n 0, 1) := by decide +kernel
theorem dX0_nextFrom_47 : decode cX0_nextFrom 47 = .ok (.getfield 29, 3) := by decide +kernel
theorem dX0_nextFrom_50 : decode cX0_nextFrom 50 = .ok (.iload_n 3, 1) := by decide +kernel
theorem dX0_nextFrom_51 : decode cX0_nextFrom 51 = .ok (.baload, 1) := by decide +kernel
theorem dX0_nextFrom_52 : decode cX0_nextFrom 52 = .ok (.invokevirtual 79, 3) := by decide +kernel
theorem dX0_nextFrom_55 : decode cX0_nextFrom 55 = .ok (.istore 5, 2) := by decide +kernel
theorem dX0_nextFrom_57 : decode cX0_nextFrom 57 = .ok (.iload 5, 2) := by decide +kernel
theorem dX0_nextFrom_59 : decode cX0_nextFrom 59 = .ok (.bipush 8, 2) := by decide +kernel
theorem dX0_nextFrom_61 : decode cX0_nextFrom 61 = .ok (.if_icmp .ge 57, 3) := by decide +kernel
theorem dX0_nextFrom_64 : decode cX0_nextFrom 64 = .ok (.aload_n 0, 1) := by decide +kernel
theorem dX0_nextFrom_65 : decode cX0_nextFrom 65 = .ok (.getfield 26, 3) := by decide +kernel
theorem dX0_nextFrom_68 : decode cX0_nextFrom 68 = .ok (.iload_n 3, 1) := by decide +kernel
theorem dX0_nextFrom_69 : decode cX0_nextFrom 69 = .ok (.iload 5, 2) := by decide +kernel
theorem dX0_nextFrom_71 : decode cX0_nextFrom 71 = .ok (.i2b, 1) := by decide +kernel
theorem dX0_nextFrom_72 : decode cX0_nextFrom 72 = .ok (.bastore, 1) := by decide +kernel
theorem dX0_nextFrom_73 : decode cX0_nextFrom 73 = .ok (.aload_n 0, 1) := by decide +kernel
theorem dX0_nextFrom_74 : decode cX0_nextFrom 74 = .ok (.iload_n 2, 1) := by decide +kernel
theorem dX0_nextFrom_75 : decode cX0_nextFrom 75 = .ok (.iload_n 3, 1) := by decide +kernel
theorem dX0_nextFrom_76 : decode cX0_nextFrom 76 = .ok (.invokevirtual 82, 3) := by decide +kernel
theorem dX0_nextFrom_79 : decode cX0_nextFrom 79 = .ok (.istore 6, 2) := by decide +kernel
theorem dX0_nextFrom_81 : decode cX0_nextFrom 81 = .ok (.iinc 3 1, 3) := by decide +kernel
theorem dX0_nextFrom_84 : decode cX0_nextFrom 84 = .ok (.iload_n 3, 1) := by decide +kernel
theorem dX0_nextFrom_85 : decode cX0_nextFrom 85 = .ok (.iconst 4, 1) := by decide +kernel
theorem dX0_nextFrom_86 : decode cX0_nextFrom 86 = .ok (.if_icmp .ne 8, 3) := by decide +kernel
theorem dX0_nextFrom_89 : decode cX0_nextFrom 89 = .ok (.aload_n 0, 1) := by decide +kernel
theorem dX0_nextFrom_90 : decode cX0_nextFrom 90 = .ok (.invokevirtual 85, 3) := by decide +kernel
theorem dX0_nextFrom_93 : decode cX0_nextFrom 93 = .ok (.ireturn, 1) := by decide +kernel
theorem dX0_nextFrom_94 : decode cX0_nextFrom 94 = .ok (.aload_n 0, 1) := by decide +kernel
theorem dX0_nextFrom_95 : decode cX0_nextFrom 95 = .ok (.getfield 29, 3) := by decide +kernel
theorem dX0_nextFrom_98 : decode cX0_nextFrom 98 = .ok (.iload_n 3, 1) := by decide +kernel
theorem dX0_nextFrom_99 : decode cX0_nextFrom 99 = .ok (.iload 6, 2) := by decide +kernel
theorem dX0_nextFrom_101 : decode cX0_nextFrom 101 = .ok (.ifCond .eq 11, 3) := by decide +kernel
theorem dX0_nextFrom_104 : decode cX0_nextFrom 104 = .ok (.iload_n 2, 1) := by decide +kernel
theorem dX0_nextFrom_105 : decode cX0_nextFrom 105 = .ok (.iload_n 3, 1) := by decide +kernel
theorem dX0_nextFrom_106 : decode cX0_nextFrom 106 = .ok (.invokestatic 76, 3) := by decide +kernel
theorem dX0_nextFrom_109 : decode cX0_nextFrom 109 = .ok (.goto 4, 3) := by decide +kernel
theorem dX0_nextFrom_112 : decode cX0_nextFrom 112 = .ok (.iconst 0, 1) := by decide +kernel
theorem dX0_nextFrom_113 : decode cX0_nextFrom 113 = .ok (.i2b, 1) := by decide +kernel
theorem dX0_nextFrom_114 : decode cX0_nextFrom 114 = .ok (.bastore, 1) := by decide +kernel
theorem dX0_nextFrom_115 : decode cX0_nextFrom 115 = .ok (.goto 27, 3) := by decide +kernel
theorem dX0_nextFrom_118 : decode cX0_nextFrom 118 = .ok (.iinc 3 (-1), 3) := by decide +kernel
theorem dX0_nextFrom_121 : decode cX0_nextFrom 121 = .ok (.iload_n 3, 1) := by decide +kernel
theorem dX0_nextFrom_122 : decode cX0_nextFrom 122 = .ok (.ifCond .ge 5, 3) := by decide +kernel
theorem dX0_nextFrom_125 : decode cX0_nextFrom 125 = .ok (.iconst (-1), 1) := by decide +kernel
theorem dX0_nextFrom_126 : decode cX0_nextFrom 126 = .ok (.ireturn, 1) := by decide +kernel
theorem dX0_nextFrom_127 : decode cX0_nextFrom 127 = .ok (.aload_n 0, 1) := by decide +kernel
theorem dX0_nextFrom_128 : decode cX0_nextFrom 128 = .ok (.getfield 29, 3) := by decide +kernel
theorem dX0_nextFrom_131 : decode cX0_nextFrom 131 = .ok (.iload_n 3, 1) := by decide +kernel
theorem dX0_nextFrom_132 : decode cX0_nextFrom 132 = .ok (.aload_n 0, 1) := by decide +kernel
theorem dX0_nextFrom_133 : decode cX0_nextFrom 133 = .ok (.getfield 26, 3) := by decide +kernel
theorem dX0_nextFrom_136 : decode cX0_nextFrom 136 = .ok (.iload_n 3, 1) := by decide +kernel
theorem dX0_nextFrom_137 : decode cX0_nextFrom 137 = .ok (.baload, 1) := by decide +kernel
theorem dX0_nextFrom_138 : decode cX0_nextFrom 138 = .ok (.iconst 1, 1) := by decide +kernel
theorem dX0_nextFrom_139 : decode cX0_nextFrom 139 = .ok (.iadd, 1) := by decide +kernel
theorem dX0_nextFrom_140 : decode cX0_nextFrom 140 = .ok (.i2b, 1) := by decide +kernel
theorem dX0_nextFrom_141 : decode cX0_nextFrom 141 = .ok (.bastore, 1) := by decide +kernel
theorem dX0_nextFrom_142 : decode cX0_nextFrom 142 = .ok (.iinc 4 1, 3) := by decide +kernel
theorem dX0_nextFrom_145 : decode cX0_nextFrom 145 = .ok (.goto (-109), 3) := by decide +kernel
theorem dX0_nextFrom_148 : decode cX0_nextFrom 148 = .ok (.iconst (-1), 1) := by decide +kernel
theorem dX0_nextFrom_149 : decode cX0_nextFrom 149 = .ok (.ireturn, 1) := by decide +kernel
end
section
set_option maxRecDepth 100000
abbrev cX0_digit : ByteArray := prog_1_method_19_code
def yX0_digit : MethodName := ⟨RX0, "digit", "(II)I"⟩
theorem dX0_digit_0 : decode cX0_digit 0 = .ok (.iload_n 0, 1) := by decide +kernel
theorem dX0_digit_1 : decode cX0_digit 1 = .ok (.bipush 9, 2) := by decide +kernel
theorem dX0_digit_3 : decode cX0_digit 3 = .ok (.iconst 3, 1) := by decide +kernel
theorem dX0_digit_4 : decode cX0_digit 4 = .ok (.iload_n 1, 1) := by decide +kernel
theorem dX0_digit_5 : decode cX0_digit 5 = .ok (.imul, 1) := by decide +kernel
theorem dX0_digit_6 : decode cX0_digit 6 = .ok (.isub, 1) := by decide +kernel
theorem dX0_digit_7 : decode cX0_digit 7 = .ok (.ishr, 1) := by decide +kernel
theorem dX0_digit_8 : decode cX0_digit 8 = .ok (.bipush 7, 2) := by decide +kernel
theorem dX0_digit_10 : decode cX0_digit 10 = .ok (.iand, 1) := by decide +kernel
theorem dX0_digit_11 : decode cX0_digit 11 = .ok (.ireturn, 1) := by decide +kernel
abbrev cX0_leap : ByteArray := prog_1_method_17_code
def yX0_leap : MethodName := ⟨RX0, "leap", "(II)I"⟩
theorem dX0_leap_0 : decode cX0_leap 0 = .ok (.iconst 0, 1) := by decide +kernel
theorem dX0_leap_1 : decode cX0_leap 1 = .ok (.istore_n 3, 1) := by decide +kernel
theorem dX0_leap_2 : decode cX0_leap 2 = .ok (.iload_n 2, 1) := by decide +kernel
theorem dX0_leap_3 : decode cX0_leap 3 = .ok (.istore 4, 2) := by decide +kernel
theorem dX0_leap_5 : decode cX0_leap 5 = .ok (.iconst 1, 1) := by decide +kernel
theorem dX0_leap_6 : decode cX0_leap 6 = .ok (.istore 5, 2) := by decide +kernel
theorem dX0_leap_8 : decode cX0_leap 8 = .ok (.iconst 0, 1) := by decide +kernel
theorem dX0_leap_9 : decode cX0_leap 9 = .ok (.istore 6, 2) := by decide +kernel
theorem dX0_leap_11 : decode cX0_leap 11 = .ok (.iload 6, 2) := by decide +kernel
theorem dX0_leap_13 : decode cX0_leap 13 = .ok (.bipush 8, 2) := by decide +kernel
theorem dX0_leap_15 : decode cX0_leap 15 = .ok (.if_icmp .gt 93, 3) := by decide +kernel
theorem dX0_leap_18 : decode cX0_leap 18 = .ok (.iload 5, 2) := by decide +kernel
theorem dX0_leap_20 : decode cX0_leap 20 = .ok (.ifCond .eq 88, 3) := by decide +kernel
theorem dX0_leap_23 : decode cX0_leap 23 = .ok (.iload 4, 2) := by decide +kernel
theorem dX0_leap_25 : decode cX0_leap 25 = .ok (.bipush 8, 2) := by decide +kernel
theorem dX0_leap_27 : decode cX0_leap 27 = .ok (.if_icmp .ge 81, 3) := by decide +kernel
theorem dX0_leap_30 : decode cX0_leap 30 = .ok (.iconst 0, 1) := by decide +kernel
theorem dX0_leap_31 : decode cX0_leap 31 = .ok (.istore 5, 2) := by decide +kernel
theorem dX0_leap_33 : decode cX0_leap 33 = .ok (.iconst 0, 1) := by decide +kernel
theorem dX0_leap_34 : decode cX0_leap 34 = .ok (.istore 7, 2) := by decide +kernel
theorem dX0_leap_36 : decode cX0_leap 36 = .ok (.iload 7, 2) := by decide +kernel
theorem dX0_leap_38 : decode cX0_leap 38 = .ok (.aload_n 0, 1) := by decide +kernel
theorem dX0_leap_39 : decode cX0_leap 39 = .ok (.getfield 50, 3) := by decide +kernel
theorem dX0_leap_42 : decode cX0_leap 42 = .ok (.if_icmp .ge 60, 3) := by decide +kernel
theorem dX0_leap_45 : decode cX0_leap 45 = .ok (.iload 4, 2) := by decide +kernel
theorem dX0_leap_47 : decode cX0_leap 47 = .ok (.bipush 8, 2) := by decide +kernel
theorem dX0_leap_49 : decode cX0_leap 49 = .ok (.if_icmp .ge 53, 3) := by decide +kernel
theorem dX0_leap_52 : decode cX0_leap 52 = .ok (.aload_n 0, 1) := by decide +kernel
theorem dX0_leap_53 : decode cX0_leap 53 = .ok (.iload 7, 2) := by decide +kernel
theorem dX0_leap_55 : decode cX0_leap 55 = .ok (.iload_n 1, 1) := by decide +kernel
theorem dX0_leap_56 : decode cX0_leap 56 = .ok (.invokevirtual 69, 3) := by decide +kernel
theorem dX0_leap_59 : decode cX0_leap 59 = .ok (.ifCond .eq 37, 3) := by decide +kernel
theorem dX0_leap_62 : decode cX0_leap 62 = .ok (.iconst 1, 1) := by decide +kernel
theorem dX0_leap_63 : decode cX0_leap 63 = .ok (.istore_n 3, 1) := by decide +kernel
theorem dX0_leap_64 : decode cX0_leap 64 = .ok (.aload_n 0, 1) := by decide +kernel
theorem dX0_leap_65 : decode cX0_leap 65 = .ok (.iload 7, 2) := by decide +kernel
theorem dX0_leap_67 : decode cX0_leap 67 = .ok (.iload_n 1, 1) := by decide +kernel
theorem dX0_leap_68 : decode cX0_leap 68 = .ok (.iload 4, 2) := by decide +kernel
theorem dX0_leap_70 : decode cX0_leap 70 = .ok (.invokevirtual 72, 3) := by decide +kernel
theorem dX0_leap_73 : decode cX0_leap 73 = .ok (.istore 8, 2) := by decide +kernel
theorem dX0_leap_75 : decode cX0_leap 75 = .ok (.iload 5, 2) := by decide +kernel
theorem dX0_leap_77 : decode cX0_leap 77 = .ok (.iload 8, 2) := by decide +kernel
theorem dX0_leap_79 : decode cX0_leap 79 = .ok (.iload 4, 2) := by decide +kernel
theorem dX0_leap_81 : decode cX0_leap 81 = .ok (.if_icmp .le 7, 3) := by decide +kernel
theorem dX0_leap_84 : decode cX0_leap 84 = .ok (.iconst 1, 1) := by decide +kernel
theorem dX0_leap_85 : decode cX0_leap 85 = .ok (.goto 4, 3) := by decide +kernel
theorem dX0_leap_88 : decode cX0_leap 88 = .ok (.iconst 0, 1) := by decide +kernel
theorem dX0_leap_89 : decode cX0_leap 89 = .ok (.ior, 1) := by decide +kernel
theorem dX0_leap_90 : decode cX0_leap 90 = .ok (.istore 5, 2) := by decide +kernel
theorem dX0_leap_92 : decode cX0_leap 92 = .ok (.iload 8, 2) := by decide +kernel
theorem dX0_leap_94 : decode cX0_leap 94 = .ok (.istore 4, 2) := by decide +kernel
theorem dX0_leap_96 : decode cX0_leap 96 = .ok (.iinc 7 1, 3) := by decide +kernel
theorem dX0_leap_99 : decode cX0_leap 99 = .ok (.goto (-63), 3) := by decide +kernel
theorem dX0_leap_102 : decode cX0_leap 102 = .ok (.iinc 6 1, 3) := by decide +kernel
theorem dX0_leap_105 : decode cX0_leap 105 = .ok (.goto (-94), 3) := by decide +kernel
theorem dX0_leap_108 : decode cX0_leap 108 = .ok (.iload_n 3, 1) := by decide +kernel
theorem dX0_leap_109 : decode cX0_leap 109 = .ok (.ifCond .ne 7, 3) := by decide +kernel
theorem dX0_leap_112 : decode cX0_leap 112 = .ok (.iload_n 2, 1) := by decide +kernel
theorem dX0_leap_113 : decode cX0_leap 113 = .ok (.ifCond .ne 8, 3) := by decide +kernel
theorem dX0_leap_116 : decode cX0_leap 116 = .ok (.iload 4, 2) := by decide +kernel
theorem dX0_leap_118 : decode cX0_leap 118 = .ok (.goto 5, 3) := by decide +kernel
theorem dX0_leap_121 : decode cX0_leap 121 = .ok (.bipush 8, 2) := by decide +kernel
theorem dX0_leap_123 : decode cX0_leap 123 = .ok (.ireturn, 1) := by decide +kernel
abbrev cX0_has : ByteArray := prog_1_method_16_code
def yX0_has : MethodName := ⟨RX0, "has", "(II)Z"⟩
theorem dX0_has_0 : decode cX0_has 0 = .ok (.aload_n 0, 1) := by decide +kernel
theorem dX0_has_1 : decode cX0_has 1 = .ok (.getfield 20, 3) := by decide +kernel
theorem dX0_has_4 : decode cX0_has 4 = .ok (.iload_n 1, 1) := by decide +kernel
theorem dX0_has_5 : decode cX0_has 5 = .ok (.baload, 1) := by decide +kernel
theorem dX0_has_6 : decode cX0_has 6 = .ok (.iload_n 2, 1) := by decide +kernel
theorem dX0_has_7 : decode cX0_has 7 = .ok (.if_icmp .eq 13, 3) := by decide +kernel
theorem dX0_has_10 : decode cX0_has 10 = .ok (.aload_n 0, 1) := by decide +kernel
theorem dX0_has_11 : decode cX0_has 11 = .ok (.getfield 23, 3) := by decide +kernel
theorem dX0_has_14 : decode cX0_has 14 = .ok (.iload_n 1, 1) := by decide +kernel
theorem dX0_has_15 : decode cX0_has 15 = .ok (.baload, 1) := by decide +kernel
theorem dX0_has_16 : decode cX0_has 16 = .ok (.iload_n 2, 1) := by decide +kernel
theorem dX0_has_17 : decode cX0_has 17 = .ok (.if_icmp .ne 7, 3) := by decide +kernel
theorem dX0_has_20 : decode cX0_has 20 = .ok (.iconst 1, 1) := by decide +kernel
theorem dX0_has_21 : decode cX0_has 21 = .ok (.goto 4, 3) := by decide +kernel
theorem dX0_has_24 : decode cX0_has 24 = .ok (.iconst 0, 1) := by decide +kernel
theorem dX0_has_25 : decode cX0_has 25 = .ok (.ireturn, 1) := by decide +kernel
abbrev cX0_allowedFrom : ByteArray := prog_1_method_13_code
def yX0_allowedFrom : MethodName := ⟨RX0, "allowedFrom", "(III)I"⟩
theorem dX0_allowedFrom_0 : decode cX0_allowedFrom 0 = .ok (.aload_n 0, 1) := by decide +kernel
theorem dX0_allowedFrom_1 : decode cX0_allowedFrom 1 = .ok (.getfield 16, 3) := by decide +kernel
theorem dX0_allowedFrom_4 : decode cX0_allowedFrom 4 = .ok (.iload_n 1, 1) := by decide +kernel
theorem dX0_allowedFrom_5 : decode cX0_allowedFrom 5 = .ok (.baload, 1) := by decide +kernel
theorem dX0_allowedFrom_6 : decode cX0_allowedFrom 6 = .ok (.bipush 8, 2) := by decide +kernel
theorem dX0_allowedFrom_8 : decode cX0_allowedFrom 8 = .ok (.imul, 1) := by decide +kernel
theorem dX0_allowedFrom_9 : decode cX0_allowedFrom 9 = .ok (.istore 4, 2) := by decide +kernel
theorem dX0_allowedFrom_11 : decode cX0_allowedFrom 11 = .ok (.aload_n 0, 1) := by decide +kernel
theorem dX0_allowedFrom_12 : decode cX0_allowedFrom 12 = .ok (.getfield 20, 3) := by decide +kernel
theorem dX0_allowedFrom_15 : decode cX0_allowedFrom 15 = .ok (.iload_n 1, 1) := by decide +kernel
theorem dX0_allowedFrom_16 : decode cX0_allowedFrom 16 = .ok (.baload, 1) := by decide +kernel
theorem dX0_allowedFrom_17 : decode cX0_allowedFrom 17 = .ok (.istore 5, 2) := by decide +kernel
theorem dX0_allowedFrom_19 : decode cX0_allowedFrom 19 = .ok (.aload_n 0, 1) := by decide +kernel
theorem dX0_allowedFrom_20 : decode cX0_allowedFrom 20 = .ok (.getfield 23, 3) := by decide +kernel
theorem dX0_allowedFrom_23 : decode cX0_allowedFrom 23 = .ok (.iload_n 1, 1) := by decide +kernel
theorem dX0_allowedFrom_24 : decode cX0_allowedFrom 24 = .ok (.baload, 1) := by decide +kernel
theorem dX0_allowedFrom_25 : decode cX0_allowedFrom 25 = .ok (.istore 6, 2) := by decide +kernel
theorem dX0_allowedFrom_27 : decode cX0_allowedFrom 27 = .ok (.iload 5, 2) := by decide +kernel
theorem dX0_allowedFrom_29 : decode cX0_allowedFrom 29 = .ok (.iload_n 2, 1) := by decide +kernel
theorem dX0_allowedFrom_30 : decode cX0_allowedFrom 30 = .ok (.if_icmp .ne 17, 3) := by decide +kernel
theorem dX0_allowedFrom_33 : decode cX0_allowedFrom 33 = .ok (.iload 6, 2) := by decide +kernel
theorem dX0_allowedFrom_35 : decode cX0_allowedFrom 35 = .ok (.iload_n 2, 1) := by decide +kernel
theorem dX0_allowedFrom_36 : decode cX0_allowedFrom 36 = .ok (.if_icmp .ne 11, 3) := by decide +kernel
theorem dX0_allowedFrom_39 : decode cX0_allowedFrom 39 = .ok (.aload_n 0, 1) := by decide +kernel
theorem dX0_allowedFrom_40 : decode cX0_allowedFrom 40 = .ok (.iload 4, 2) := by decide +kernel
theorem dX0_allowedFrom_42 : decode cX0_allowedFrom 42 = .ok (.iload_n 3, 1) := by decide +kernel
theorem dX0_allowedFrom_43 : decode cX0_allowedFrom 43 = .ok (.invokevirtual 58, 3) := by decide +kernel
theorem dX0_allowedFrom_46 : decode cX0_allowedFrom 46 = .ok (.ireturn, 1) := by decide +kernel
theorem dX0_allowedFrom_47 : decode cX0_allowedFrom 47 = .ok (.iload 5, 2) := by decide +kernel
theorem dX0_allowedFrom_49 : decode cX0_allowedFrom 49 = .ok (.iload_n 2, 1) := by decide +kernel
theorem dX0_allowedFrom_50 : decode cX0_allowedFrom 50 = .ok (.if_icmp .ne 40, 3) := by decide +kernel
theorem dX0_allowedFrom_53 : decode cX0_allowedFrom 53 = .ok (.iload 6, 2) := by decide +kernel
theorem dX0_allowedFrom_55 : decode cX0_allowedFrom 55 = .ok (.iload_n 2, 1) := by decide +kernel
theorem dX0_allowedFrom_56 : decode cX0_allowedFrom 56 = .ok (.if_icmp .ge 25, 3) := by decide +kernel
theorem dX0_allowedFrom_59 : decode cX0_allowedFrom 59 = .ok (.aload_n 0, 1) := by decide +kernel
theorem dX0_allowedFrom_60 : decode cX0_allowedFrom 60 = .ok (.getfield 13, 3) := by decide +kernel
theorem dX0_allowedFrom_63 : decode cX0_allowedFrom 63 = .ok (.iload 4, 2) := by decide +kernel
theorem dX0_allowedFrom_65 : decode cX0_allowedFrom 65 = .ok (.aload_n 0, 1) := by decide +kernel
theorem dX0_allowedFrom_66 : decode cX0_allowedFrom 66 = .ok (.getfield 26, 3) := by decide +kernel
theorem dX0_allowedFrom_69 : decode cX0_allowedFrom 69 = .ok (.iload 6, 2) := by decide +kernel
theorem dX0_allowedFrom_71 : decode cX0_allowedFrom 71 = .ok (.baload, 1) := by decide +kernel
theorem dX0_allowedFrom_72 : decode cX0_allowedFrom 72 = .ok (.iadd, 1) := by decide +kernel
theorem dX0_allowedFrom_73 : decode cX0_allowedFrom 73 = .ok (.saload, 1) := by decide +kernel
theorem dX0_allowedFrom_74 : decode cX0_allowedFrom 74 = .ok (.iload_n 3, 1) := by decide +kernel
theorem dX0_allowedFrom_75 : decode cX0_allowedFrom 75 = .ok (.invokestatic 62, 3) := by decide +kernel
theorem dX0_allowedFrom_78 : decode cX0_allowedFrom 78 = .ok (.goto 11, 3) := by decide +kernel
theorem dX0_allowedFrom_81 : decode cX0_allowedFrom 81 = .ok (.aload_n 0, 1) := by decide +kernel
theorem dX0_allowedFrom_82 : decode cX0_allowedFrom 82 = .ok (.iload 4, 2) := by decide +kernel
theorem dX0_allowedFrom_84 : decode cX0_allowedFrom 84 = .ok (.iload_n 3, 1) := by decide +kernel
theorem dX0_allowedFrom_85 : decode cX0_allowedFrom 85 = .ok (.iconst 1, 1) := by decide +kernel
theorem dX0_allowedFrom_86 : decode cX0_allowedFrom 86 = .ok (.invokevirtual 65, 3) := by decide +kernel
theorem dX0_allowedFrom_89 : decode cX0_allowedFrom 89 = .ok (.ireturn, 1) := by decide +kernel
theorem dX0_allowedFrom_90 : decode cX0_allowedFrom 90 = .ok (.iload 5, 2) := by decide +kernel
theorem dX0_allowedFrom_92 : decode cX0_allowedFrom 92 = .ok (.iload_n 2, 1) := by decide +kernel
theorem dX0_allowedFrom_93 : decode cX0_allowedFrom 93 = .ok (.if_icmp .ge 25, 3) := by decide +kernel
theorem dX0_allowedFrom_96 : decode cX0_allowedFrom 96 = .ok (.aload_n 0, 1) := by decide +kernel
theorem dX0_allowedFrom_97 : decode cX0_allowedFrom 97 = .ok (.getfield 7, 3) := by decide +kernel
theorem dX0_allowedFrom_100 : decode cX0_allowedFrom 100 = .ok (.iload 4, 2) := by decide +kernel
theorem dX0_allowedFrom_102 : decode cX0_allowedFrom 102 = .ok (.aload_n 0, 1) := by decide +kernel
theorem dX0_allowedFrom_103 : decode cX0_allowedFrom 103 = .ok (.getfield 26, 3) := by decide +kernel
theorem dX0_allowedFrom_106 : decode cX0_allowedFrom 106 = .ok (.iload 5, 2) := by decide +kernel
theorem dX0_allowedFrom_108 : decode cX0_allowedFrom 108 = .ok (.baload, 1) := by decide +kernel
theorem dX0_allowedFrom_109 : decode cX0_allowedFrom 109 = .ok (.iadd, 1) := by decide +kernel
theorem dX0_allowedFrom_110 : decode cX0_allowedFrom 110 = .ok (.saload, 1) := by decide +kernel
theorem dX0_allowedFrom_111 : decode cX0_allowedFrom 111 = .ok (.iload_n 3, 1) := by decide +kernel
theorem dX0_allowedFrom_112 : decode cX0_allowedFrom 112 = .ok (.invokestatic 62, 3) := by decide +kernel
theorem dX0_allowedFrom_115 : decode cX0_allowedFrom 115 = .ok (.goto 11, 3) := by decide +kernel
theorem dX0_allowedFrom_118 : decode cX0_allowedFrom 118 = .ok (.aload_n 0, 1) := by decide +kernel
theorem dX0_allowedFrom_119 : decode cX0_allowedFrom 119 = .ok (.iload 4, 2) := by decide +kernel
theorem dX0_allowedFrom_121 : decode cX0_allowedFrom 121 = .ok (.iload_n 3, 1) := by decide +kernel
theorem dX0_allowedFrom_122 : decode cX0_allowedFrom 122 = .ok (.iconst 0, 1) := by decide +kernel
theorem dX0_allowedFrom_123 : decode cX0_allowedFrom 123 = .ok (.invokevirtual 65, 3) := by decide +kernel
theorem dX0_allowedFrom_126 : decode cX0_allowedFrom 126 = .ok (.ireturn, 1) := by decide +kernel
abbrev cX0_nextOnDiagonal : ByteArray := prog_1_method_14_code
def yX0_nextOnDiagonal : MethodName := ⟨RX0, "nextOnDiagonal", "(II)I"⟩
theorem dX0_nextOnDiagonal_0 : decode cX0_nextOnDiagonal 0 = .ok (.iload_n 2, 1) := by decide +kernel
theorem dX0_nextOnDiagonal_1 : decode cX0_nextOnDiagonal 1 = .ok (.istore_n 3, 1) := by decide +kernel
theorem dX0_nextOnDiagonal_2 : decode cX0_nextOnDiagonal 2 = .ok (.iload_n 3, 1) := by decide +kernel
theorem dX0_nextOnDiagonal_3 : decode cX0_nextOnDiagonal 3 = .ok (.bipush 8, 2) := by decide +kernel
theorem dX0_nextOnDiagonal_5 : decode cX0_nextOnDiagonal 5 = .ok (.if_icmp .ge 24, 3) := by decide +kernel
theorem dX0_nextOnDiagonal_8 : decode cX0_nextOnDiagonal 8 = .ok (.aload_n 0, 1) := by decide +kernel
theorem dX0_nextOnDiagonal_9 : decode cX0_nextOnDiagonal 9 = .ok (.getfield 7, 3) := by decide +kernel
theorem dX0_nextOnDiagonal_12 : decode cX0_nextOnDiagonal 12 = .ok (.iload_n 1, 1) := by decide +kernel
theorem dX0_nextOnDiagonal_13 : decode cX0_nextOnDiagonal 13 = .ok (.iload_n 3, 1) := by decide +kernel
theorem dX0_nextOnDiagonal_14 : decode cX0_nextOnDiagonal 14 = .ok (.iadd, 1) := by decide +kernel
theorem dX0_nextOnDiagonal_15 : decode cX0_nextOnDiagonal 15 = .ok (.saload, 1) := by decide +kernel
theorem dX0_nextOnDiagonal_16 : decode cX0_nextOnDiagonal 16 = .ok (.iload_n 3, 1) := by decide +kernel
theorem dX0_nextOnDiagonal_17 : decode cX0_nextOnDiagonal 17 = .ok (.invokestatic 54, 3) := by decide +kernel
theorem dX0_nextOnDiagonal_20 : decode cX0_nextOnDiagonal 20 = .ok (.ifCond .ne 9, 3) := by decide +kernel
theorem dX0_nextOnDiagonal_23 : decode cX0_nextOnDiagonal 23 = .ok (.iinc 3 1, 3) := by decide +kernel
theorem dX0_nextOnDiagonal_26 : decode cX0_nextOnDiagonal 26 = .ok (.goto (-24), 3) := by decide +kernel
theorem dX0_nextOnDiagonal_29 : decode cX0_nextOnDiagonal 29 = .ok (.iload_n 3, 1) := by decide +kernel
theorem dX0_nextOnDiagonal_30 : decode cX0_nextOnDiagonal 30 = .ok (.ireturn, 1) := by decide +kernel
abbrev cX0_in : ByteArray := prog_1_method_5_code
def yX0_in : MethodName := ⟨RX0, "in", "(II)Z"⟩
theorem dX0_in_0 : decode cX0_in 0 = .ok (.iload_n 0, 1) := by decide +kernel
theorem dX0_in_1 : decode cX0_in 1 = .ok (.iload_n 1, 1) := by decide +kernel
theorem dX0_in_2 : decode cX0_in 2 = .ok (.ishr, 1) := by decide +kernel
theorem dX0_in_3 : decode cX0_in 3 = .ok (.iconst 1, 1) := by decide +kernel
theorem dX0_in_4 : decode cX0_in 4 = .ok (.iand, 1) := by decide +kernel
theorem dX0_in_5 : decode cX0_in 5 = .ok (.ifCond .eq 7, 3) := by decide +kernel
theorem dX0_in_8 : decode cX0_in 8 = .ok (.iconst 1, 1) := by decide +kernel
theorem dX0_in_9 : decode cX0_in 9 = .ok (.goto 4, 3) := by decide +kernel
theorem dX0_in_12 : decode cX0_in 12 = .ok (.iconst 0, 1) := by decide +kernel
theorem dX0_in_13 : decode cX0_in 13 = .ok (.ireturn, 1) := by decide +kernel
abbrev cX0_from : ByteArray := prog_1_method_12_code
def yX0_from : MethodName := ⟨RX0, "from", "(II)I"⟩
theorem dX0_from_0 : decode cX0_from 0 = .ok (.iload_n 1, 1) := by decide +kernel
theorem dX0_from_1 : decode cX0_from 1 = .ok (.istore_n 2, 1) := by decide +kernel
theorem dX0_from_2 : decode cX0_from 2 = .ok (.iload_n 2, 1) := by decide +kernel
theorem dX0_from_3 : decode cX0_from 3 = .ok (.bipush 8, 2) := by decide +kernel
theorem dX0_from_5 : decode cX0_from 5 = .ok (.if_icmp .ge 19, 3) := by decide +kernel
theorem dX0_from_8 : decode cX0_from 8 = .ok (.iload_n 0, 1) := by decide +kernel
theorem dX0_from_9 : decode cX0_from 9 = .ok (.iload_n 2, 1) := by decide +kernel
theorem dX0_from_10 : decode cX0_from 10 = .ok (.invokestatic 54, 3) := by decide +kernel
theorem dX0_from_13 : decode cX0_from 13 = .ok (.ifCond .eq 5, 3) := by decide +kernel
theorem dX0_from_16 : decode cX0_from 16 = .ok (.iload_n 2, 1) := by decide +kernel
theorem dX0_from_17 : decode cX0_from 17 = .ok (.ireturn, 1) := by decide +kernel
theorem dX0_from_18 : decode cX0_from 18 = .ok (.iinc 2 1, 3) := by decide +kernel
theorem dX0_from_21 : decode cX0_from 21 = .ok (.goto (-19), 3) := by decide +kernel
theorem dX0_from_24 : decode cX0_from 24 = .ok (.bipush 8, 2) := by decide +kernel
theorem dX0_from_26 : decode cX0_from 26 = .ok (.ireturn, 1) := by decide +kernel
abbrev cX0_nextWithAny : ByteArray := prog_1_method_15_code
def yX0_nextWithAny : MethodName := ⟨RX0, "nextWithAny", "(IIZ)I"⟩
theorem dX0_nextWithAny_0 : decode cX0_nextWithAny 0 = .ok (.iload_n 2, 1) := by decide +kernel
theorem dX0_nextWithAny_1 : decode cX0_nextWithAny 1 = .ok (.istore 4, 2) := by decide +kernel
theorem dX0_nextWithAny_3 : decode cX0_nextWithAny 3 = .ok (.iload 4, 2) := by decide +kernel
theorem dX0_nextWithAny_5 : decode cX0_nextWithAny 5 = .ok (.bipush 8, 2) := by decide +kernel
theorem dX0_nextWithAny_7 : decode cX0_nextWithAny 7 = .ok (.if_icmp .ge 37, 3) := by decide +kernel
theorem dX0_nextWithAny_10 : decode cX0_nextWithAny 10 = .ok (.iload_n 3, 1) := by decide +kernel
theorem dX0_nextWithAny_11 : decode cX0_nextWithAny 11 = .ok (.ifCond .eq 15, 3) := by decide +kernel
theorem dX0_nextWithAny_14 : decode cX0_nextWithAny 14 = .ok (.aload_n 0, 1) := by decide +kernel
theorem dX0_nextWithAny_15 : decode cX0_nextWithAny 15 = .ok (.getfield 7, 3) := by decide +kernel
theorem dX0_nextWithAny_18 : decode cX0_nextWithAny 18 = .ok (.iload_n 1, 1) := by decide +kernel
theorem dX0_nextWithAny_19 : decode cX0_nextWithAny 19 = .ok (.iload 4, 2) := by decide +kernel
theorem dX0_nextWithAny_21 : decode cX0_nextWithAny 21 = .ok (.iadd, 1) := by decide +kernel
theorem dX0_nextWithAny_22 : decode cX0_nextWithAny 22 = .ok (.saload, 1) := by decide +kernel
theorem dX0_nextWithAny_23 : decode cX0_nextWithAny 23 = .ok (.goto 12, 3) := by decide +kernel
theorem dX0_nextWithAny_26 : decode cX0_nextWithAny 26 = .ok (.aload_n 0, 1) := by decide +kernel
theorem dX0_nextWithAny_27 : decode cX0_nextWithAny 27 = .ok (.getfield 13, 3) := by decide +kernel
theorem dX0_nextWithAny_30 : decode cX0_nextWithAny 30 = .ok (.iload_n 1, 1) := by decide +kernel
theorem dX0_nextWithAny_31 : decode cX0_nextWithAny 31 = .ok (.iload 4, 2) := by decide +kernel
theorem dX0_nextWithAny_33 : decode cX0_nextWithAny 33 = .ok (.iadd, 1) := by decide +kernel
theorem dX0_nextWithAny_34 : decode cX0_nextWithAny 34 = .ok (.saload, 1) := by decide +kernel
theorem dX0_nextWithAny_35 : decode cX0_nextWithAny 35 = .ok (.ifCond .ne 9, 3) := by decide +kernel
theorem dX0_nextWithAny_38 : decode cX0_nextWithAny 38 = .ok (.iinc 4 1, 3) := by decide +kernel
theorem dX0_nextWithAny_41 : decode cX0_nextWithAny 41 = .ok (.goto (-38), 3) := by decide +kernel
theorem dX0_nextWithAny_44 : decode cX0_nextWithAny 44 = .ok (.iload 4, 2) := by decide +kernel
theorem dX0_nextWithAny_46 : decode cX0_nextWithAny 46 = .ok (.ireturn, 1) := by decide +kernel
abbrev cX0_tightUpTo : ByteArray := prog_1_method_20_code
def yX0_tightUpTo : MethodName := ⟨RX0, "tightUpTo", "(II)Z"⟩
theorem dX0_tightUpTo_0 : decode cX0_tightUpTo 0 = .ok (.iconst 0, 1) := by decide +kernel
theorem dX0_tightUpTo_1 : decode cX0_tightUpTo 1 = .ok (.istore_n 3, 1) := by decide +kernel
theorem dX0_tightUpTo_2 : decode cX0_tightUpTo 2 = .ok (.iload_n 3, 1) := by decide +kernel
theorem dX0_tightUpTo_3 : decode cX0_tightUpTo 3 = .ok (.iload_n 2, 1) := by decide +kernel
theorem dX0_tightUpTo_4 : decode cX0_tightUpTo 4 = .ok (.if_icmp .gt 25, 3) := by decide +kernel
theorem dX0_tightUpTo_7 : decode cX0_tightUpTo 7 = .ok (.aload_n 0, 1) := by decide +kernel
theorem dX0_tightUpTo_8 : decode cX0_tightUpTo 8 = .ok (.getfield 26, 3) := by decide +kernel
theorem dX0_tightUpTo_11 : decode cX0_tightUpTo 11 = .ok (.iload_n 3, 1) := by decide +kernel
theorem dX0_tightUpTo_12 : decode cX0_tightUpTo 12 = .ok (.baload, 1) := by decide +kernel
theorem dX0_tightUpTo_13 : decode cX0_tightUpTo 13 = .ok (.iload_n 1, 1) := by decide +kernel
theorem dX0_tightUpTo_14 : decode cX0_tightUpTo 14 = .ok (.iload_n 3, 1) := by decide +kernel
theorem dX0_tightUpTo_15 : decode cX0_tightUpTo 15 = .ok (.invokestatic 76, 3) := by decide +kernel
theorem dX0_tightUpTo_18 : decode cX0_tightUpTo 18 = .ok (.if_icmp .eq 5, 3) := by decide +kernel
theorem dX0_tightUpTo_21 : decode cX0_tightUpTo 21 = .ok (.iconst 0, 1) := by decide +kernel
theorem dX0_tightUpTo_22 : decode cX0_tightUpTo 22 = .ok (.ireturn, 1) := by decide +kernel
theorem dX0_tightUpTo_23 : decode cX0_tightUpTo 23 = .ok (.iinc 3 1, 3) := by decide +kernel
theorem dX0_tightUpTo_26 : decode cX0_tightUpTo 26 = .ok (.goto (-24), 3) := by decide +kernel
theorem dX0_tightUpTo_29 : decode cX0_tightUpTo 29 = .ok (.iconst 1, 1) := by decide +kernel
theorem dX0_tightUpTo_30 : decode cX0_tightUpTo 30 = .ok (.ireturn, 1) := by decide +kernel
abbrev cX0_code : ByteArray := prog_1_method_21_code
def yX0_code : MethodName := ⟨RX0, "code", "()I"⟩
theorem dX0_code_0 : decode cX0_code 0 = .ok (.aload_n 0, 1) := by decide +kernel
theorem dX0_code_1 : decode cX0_code 1 = .ok (.getfield 26, 3) := by decide +kernel
theorem dX0_code_4 : decode cX0_code 4 = .ok (.iconst 3, 1) := by decide +kernel
theorem dX0_code_5 : decode cX0_code 5 = .ok (.baload, 1) := by decide +kernel
theorem dX0_code_6 : decode cX0_code 6 = .ok (.bipush 8, 2) := by decide +kernel
theorem dX0_code_8 : decode cX0_code 8 = .ok (.aload_n 0, 1) := by decide +kernel
theorem dX0_code_9 : decode cX0_code 9 = .ok (.getfield 26, 3) := by decide +kernel
theorem dX0_code_12 : decode cX0_code 12 = .ok (.iconst 2, 1) := by decide +kernel
theorem dX0_code_13 : decode cX0_code 13 = .ok (.baload, 1) := by decide +kernel
theorem dX0_code_14 : decode cX0_code 14 = .ok (.imul, 1) := by decide +kernel
theorem dX0_code_15 : decode cX0_code 15 = .ok (.iadd, 1) := by decide +kernel
theorem dX0_code_16 : decode cX0_code 16 = .ok (.bipush 64, 2) := by decide +kernel
theorem dX0_code_18 : decode cX0_code 18 = .ok (.aload_n 0, 1) := by decide +kernel
theorem dX0_code_19 : decode cX0_code 19 = .ok (.getfield 26, 3) := by decide +kernel
theorem dX0_code_22 : decode cX0_code 22 = .ok (.iconst 1, 1) := by decide +kernel
theorem dX0_code_23 : decode cX0_code 23 = .ok (.baload, 1) := by decide +kernel
theorem dX0_code_24 : decode cX0_code 24 = .ok (.imul, 1) := by decide +kernel
theorem dX0_code_25 : decode cX0_code 25 = .ok (.iadd, 1) := by decide +kernel
theorem dX0_code_26 : decode cX0_code 26 = .ok (.sipush 512, 3) := by decide +kernel
theorem dX0_code_29 : decode cX0_code 29 = .ok (.aload_n 0, 1) := by decide +kernel
theorem dX0_code_30 : decode cX0_code 30 = .ok (.getfield 26, 3) := by decide +kernel
theorem dX0_code_33 : decode cX0_code 33 = .ok (.iconst 0, 1) := by decide +kernel
theorem dX0_code_34 : decode cX0_code 34 = .ok (.baload, 1) := by decide +kernel
theorem dX0_code_35 : decode cX0_code 35 = .ok (.imul, 1) := by decide +kernel
theorem dX0_code_36 : decode cX0_code 36 = .ok (.iadd, 1) := by decide +kernel
theorem dX0_code_37 : decode cX0_code 37 = .ok (.ireturn, 1) := by decide +kernel
abbrev cX0_answer : ByteArray := prog_1_method_23_code
def yX0_answer : MethodName := ⟨RX0, "answer", "(I)I"⟩
theorem dX0_answer_0 : decode cX0_answer 0 = .ok (.iload_n 1, 1) := by decide +kernel
theorem dX0_answer_1 : decode cX0_answer 1 = .ok (.ifCond .ge 7, 3) := by decide +kernel
theorem dX0_answer_4 : decode cX0_answer 4 = .ok (.iconst (-1), 1) := by decide +kernel
theorem dX0_answer_5 : decode cX0_answer 5 = .ok (.goto 8, 3) := by decide +kernel
theorem dX0_answer_8 : decode cX0_answer 8 = .ok (.aload_n 0, 1) := by decide +kernel
theorem dX0_answer_9 : decode cX0_answer 9 = .ok (.iconst 0, 1) := by decide +kernel
theorem dX0_answer_10 : decode cX0_answer 10 = .ok (.invokevirtual 89, 3) := by decide +kernel
theorem dX0_answer_13 : decode cX0_answer 13 = .ok (.istore_n 2, 1) := by decide +kernel
theorem dX0_answer_14 : decode cX0_answer 14 = .ok (.iconst 0, 1) := by decide +kernel
theorem dX0_answer_15 : decode cX0_answer 15 = .ok (.istore_n 3, 1) := by decide +kernel
theorem dX0_answer_16 : decode cX0_answer 16 = .ok (.iload_n 3, 1) := by decide +kernel
theorem dX0_answer_17 : decode cX0_answer 17 = .ok (.iload_n 1, 1) := by decide +kernel
theorem dX0_answer_18 : decode cX0_answer 18 = .ok (.if_icmp .ge 21, 3) := by decide +kernel
theorem dX0_answer_21 : decode cX0_answer 21 = .ok (.iload_n 2, 1) := by decide +kernel
theorem dX0_answer_22 : decode cX0_answer 22 = .ok (.ifCond .lt 17, 3) := by decide +kernel
theorem dX0_answer_25 : decode cX0_answer 25 = .ok (.aload_n 0, 1) := by decide +kernel
theorem dX0_answer_26 : decode cX0_answer 26 = .ok (.iload_n 2, 1) := by decide +kernel
theorem dX0_answer_27 : decode cX0_answer 27 = .ok (.iconst 1, 1) := by decide +kernel
theorem dX0_answer_28 : decode cX0_answer 28 = .ok (.iadd, 1) := by decide +kernel
theorem dX0_answer_29 : decode cX0_answer 29 = .ok (.invokevirtual 89, 3) := by decide +kernel
theorem dX0_answer_32 : decode cX0_answer 32 = .ok (.istore_n 2, 1) := by decide +kernel
theorem dX0_answer_33 : decode cX0_answer 33 = .ok (.iinc 3 1, 3) := by decide +kernel
theorem dX0_answer_36 : decode cX0_answer 36 = .ok (.goto (-20), 3) := by decide +kernel
theorem dX0_answer_39 : decode cX0_answer 39 = .ok (.iload_n 2, 1) := by decide +kernel
theorem dX0_answer_40 : decode cX0_answer 40 = .ok (.ireturn, 1) := by decide +kernel
end
section
set_option maxRecDepth 100000
abbrev cX0_seek : ByteArray := prog_1_method_24_code
def yX0_seek : MethodName := ⟨RX0, "seek", "(I)I"⟩
theorem dX0_seek_0 : decode cX0_seek 0 = .ok (.aload_n 0, 1) := by decide +kernel
theorem dX0_seek_1 : decode cX0_seek 1 = .ok (.iload_n 1, 1) := by decide +kernel
theorem dX0_seek_2 : decode cX0_seek 2 = .ok (.invokevirtual 89, 3) := by decide +kernel
theorem dX0_seek_5 : decode cX0_seek 5 = .ok (.ireturn, 1) := by decide +kernel
abbrev cX0_values : ByteArray := prog_1_method_25_code
def yX0_values : MethodName := ⟨RX0, "values", "(I)I"⟩
theorem dX0_values_0 : decode cX0_values 0 = .ok (.iconst 0, 1) := by decide +kernel
theorem dX0_values_1 : decode cX0_values 1 = .ok (.istore_n 2, 1) := by decide +kernel
theorem dX0_values_2 : decode cX0_values 2 = .ok (.iload_n 1, 1) := by decide +kernel
theorem dX0_values_3 : decode cX0_values 3 = .ok (.invokestatic 47, 3) := by decide +kernel
theorem dX0_values_6 : decode cX0_values 6 = .ok (.ifCond .eq 11, 3) := by decide +kernel
theorem dX0_values_9 : decode cX0_values 9 = .ok (.aload_n 0, 1) := by decide +kernel
theorem dX0_values_10 : decode cX0_values 10 = .ok (.iconst 0, 1) := by decide +kernel
theorem dX0_values_11 : decode cX0_values 11 = .ok (.invokevirtual 89, 3) := by decide +kernel
theorem dX0_values_14 : decode cX0_values 14 = .ok (.goto 4, 3) := by decide +kernel
theorem dX0_values_17 : decode cX0_values 17 = .ok (.iconst (-1), 1) := by decide +kernel
theorem dX0_values_18 : decode cX0_values 18 = .ok (.istore_n 3, 1) := by decide +kernel
theorem dX0_values_19 : decode cX0_values 19 = .ok (.iconst 0, 1) := by decide +kernel
theorem dX0_values_20 : decode cX0_values 20 = .ok (.istore 4, 2) := by decide +kernel
theorem dX0_values_22 : decode cX0_values 22 = .ok (.iload 4, 2) := by decide +kernel
theorem dX0_values_24 : decode cX0_values 24 = .ok (.sipush 4096, 3) := by decide +kernel
theorem dX0_values_27 : decode cX0_values 27 = .ok (.if_icmp .ge 31, 3) := by decide +kernel
theorem dX0_values_30 : decode cX0_values 30 = .ok (.iload_n 3, 1) := by decide +kernel
theorem dX0_values_31 : decode cX0_values 31 = .ok (.ifCond .lt 27, 3) := by decide +kernel
theorem dX0_values_34 : decode cX0_values 34 = .ok (.iload_n 2, 1) := by decide +kernel
theorem dX0_values_35 : decode cX0_values 35 = .ok (.iconst 1, 1) := by decide +kernel
theorem dX0_values_36 : decode cX0_values 36 = .ok (.iload_n 3, 1) := by decide +kernel
theorem dX0_values_37 : decode cX0_values 37 = .ok (.iload_n 1, 1) := by decide +kernel
theorem dX0_values_38 : decode cX0_values 38 = .ok (.invokestatic 76, 3) := by decide +kernel
theorem dX0_values_41 : decode cX0_values 41 = .ok (.ishl, 1) := by decide +kernel
theorem dX0_values_42 : decode cX0_values 42 = .ok (.ior, 1) := by decide +kernel
theorem dX0_values_43 : decode cX0_values 43 = .ok (.istore_n 2, 1) := by decide +kernel
theorem dX0_values_44 : decode cX0_values 44 = .ok (.aload_n 0, 1) := by decide +kernel
theorem dX0_values_45 : decode cX0_values 45 = .ok (.iload_n 3, 1) := by decide +kernel
theorem dX0_values_46 : decode cX0_values 46 = .ok (.iconst 1, 1) := by decide +kernel
theorem dX0_values_47 : decode cX0_values 47 = .ok (.iadd, 1) := by decide +kernel
theorem dX0_values_48 : decode cX0_values 48 = .ok (.invokevirtual 89, 3) := by decide +kernel
theorem dX0_values_51 : decode cX0_values 51 = .ok (.istore_n 3, 1) := by decide +kernel
theorem dX0_values_52 : decode cX0_values 52 = .ok (.iinc 4 1, 3) := by decide +kernel
theorem dX0_values_55 : decode cX0_values 55 = .ok (.goto (-33), 3) := by decide +kernel
theorem dX0_values_58 : decode cX0_values 58 = .ok (.iload_n 2, 1) := by decide +kernel
theorem dX0_values_59 : decode cX0_values 59 = .ok (.ireturn, 1) := by decide +kernel
abbrev cX0_countWith : ByteArray := prog_1_method_26_code
def yX0_countWith : MethodName := ⟨RX0, "countWith", "(II)I"⟩
theorem dX0_countWith_0 : decode cX0_countWith 0 = .ok (.iconst 0, 1) := by decide +kernel
theorem dX0_countWith_1 : decode cX0_countWith 1 = .ok (.istore_n 3, 1) := by decide +kernel
theorem dX0_countWith_2 : decode cX0_countWith 2 = .ok (.iload_n 1, 1) := by decide +kernel
theorem dX0_countWith_3 : decode cX0_countWith 3 = .ok (.invokestatic 47, 3) := by decide +kernel
theorem dX0_countWith_6 : decode cX0_countWith 6 = .ok (.ifCond .eq 11, 3) := by decide +kernel
theorem dX0_countWith_9 : decode cX0_countWith 9 = .ok (.aload_n 0, 1) := by decide +kernel
theorem dX0_countWith_10 : decode cX0_countWith 10 = .ok (.iconst 0, 1) := by decide +kernel
theorem dX0_countWith_11 : decode cX0_countWith 11 = .ok (.invokevirtual 89, 3) := by decide +kernel
theorem dX0_countWith_14 : decode cX0_countWith 14 = .ok (.goto 4, 3) := by decide +kernel
theorem dX0_countWith_17 : decode cX0_countWith 17 = .ok (.iconst (-1), 1) := by decide +kernel
theorem dX0_countWith_18 : decode cX0_countWith 18 = .ok (.istore 4, 2) := by decide +kernel
theorem dX0_countWith_20 : decode cX0_countWith 20 = .ok (.iconst 0, 1) := by decide +kernel
theorem dX0_countWith_21 : decode cX0_countWith 21 = .ok (.istore 5, 2) := by decide +kernel
theorem dX0_countWith_23 : decode cX0_countWith 23 = .ok (.iload 5, 2) := by decide +kernel
theorem dX0_countWith_25 : decode cX0_countWith 25 = .ok (.sipush 4096, 3) := by decide +kernel
theorem dX0_countWith_28 : decode cX0_countWith 28 = .ok (.if_icmp .ge 42, 3) := by decide +kernel
theorem dX0_countWith_31 : decode cX0_countWith 31 = .ok (.iload 4, 2) := by decide +kernel
theorem dX0_countWith_33 : decode cX0_countWith 33 = .ok (.ifCond .lt 37, 3) := by decide +kernel
theorem dX0_countWith_36 : decode cX0_countWith 36 = .ok (.iload_n 3, 1) := by decide +kernel
theorem dX0_countWith_37 : decode cX0_countWith 37 = .ok (.iload 4, 2) := by decide +kernel
theorem dX0_countWith_39 : decode cX0_countWith 39 = .ok (.iload_n 1, 1) := by decide +kernel
theorem dX0_countWith_40 : decode cX0_countWith 40 = .ok (.invokestatic 76, 3) := by decide +kernel
theorem dX0_countWith_43 : decode cX0_countWith 43 = .ok (.iload_n 2, 1) := by decide +kernel
theorem dX0_countWith_44 : decode cX0_countWith 44 = .ok (.if_icmp .ne 7, 3) := by decide +kernel
theorem dX0_countWith_47 : decode cX0_countWith 47 = .ok (.iconst 1, 1) := by decide +kernel
theorem dX0_countWith_48 : decode cX0_countWith 48 = .ok (.goto 4, 3) := by decide +kernel
theorem dX0_countWith_51 : decode cX0_countWith 51 = .ok (.iconst 0, 1) := by decide +kernel
theorem dX0_countWith_52 : decode cX0_countWith 52 = .ok (.iadd, 1) := by decide +kernel
theorem dX0_countWith_53 : decode cX0_countWith 53 = .ok (.istore_n 3, 1) := by decide +kernel
theorem dX0_countWith_54 : decode cX0_countWith 54 = .ok (.aload_n 0, 1) := by decide +kernel
theorem dX0_countWith_55 : decode cX0_countWith 55 = .ok (.iload 4, 2) := by decide +kernel
theorem dX0_countWith_57 : decode cX0_countWith 57 = .ok (.iconst 1, 1) := by decide +kernel
theorem dX0_countWith_58 : decode cX0_countWith 58 = .ok (.iadd, 1) := by decide +kernel
theorem dX0_countWith_59 : decode cX0_countWith 59 = .ok (.invokevirtual 89, 3) := by decide +kernel
theorem dX0_countWith_62 : decode cX0_countWith 62 = .ok (.istore 4, 2) := by decide +kernel
theorem dX0_countWith_64 : decode cX0_countWith 64 = .ok (.iinc 5 1, 3) := by decide +kernel
theorem dX0_countWith_67 : decode cX0_countWith 67 = .ok (.goto (-44), 3) := by decide +kernel
theorem dX0_countWith_70 : decode cX0_countWith 70 = .ok (.iload_n 3, 1) := by decide +kernel
theorem dX0_countWith_71 : decode cX0_countWith 71 = .ok (.ireturn, 1) := by decide +kernel
abbrev cX0_holds : ByteArray := prog_1_method_27_code
def yX0_holds : MethodName := ⟨RX0, "holds", "(I)Z"⟩
theorem dX0_holds_0 : decode cX0_holds 0 = .ok (.iload_n 1, 1) := by decide +kernel
theorem dX0_holds_1 : decode cX0_holds 1 = .ok (.ifCond .lt 16, 3) := by decide +kernel
theorem dX0_holds_4 : decode cX0_holds 4 = .ok (.aload_n 0, 1) := by decide +kernel
theorem dX0_holds_5 : decode cX0_holds 5 = .ok (.iload_n 1, 1) := by decide +kernel
theorem dX0_holds_6 : decode cX0_holds 6 = .ok (.invokevirtual 89, 3) := by decide +kernel
theorem dX0_holds_9 : decode cX0_holds 9 = .ok (.iload_n 1, 1) := by decide +kernel
theorem dX0_holds_10 : decode cX0_holds 10 = .ok (.if_icmp .ne 7, 3) := by decide +kernel
theorem dX0_holds_13 : decode cX0_holds 13 = .ok (.iconst 1, 1) := by decide +kernel
theorem dX0_holds_14 : decode cX0_holds 14 = .ok (.goto 4, 3) := by decide +kernel
theorem dX0_holds_17 : decode cX0_holds 17 = .ok (.iconst 0, 1) := by decide +kernel
theorem dX0_holds_18 : decode cX0_holds 18 = .ok (.ireturn, 1) := by decide +kernel
abbrev cX0_pairs : ByteArray := prog_1_method_28_code
def yX0_pairs : MethodName := ⟨RX0, "pairs", "(II)I"⟩
theorem dX0_pairs_0 : decode cX0_pairs 0 = .ok (.lconst 0, 1) := by decide +kernel
theorem dX0_pairs_1 : decode cX0_pairs 1 = .ok (.lstore_n 3, 1) := by decide +kernel
theorem dX0_pairs_2 : decode cX0_pairs 2 = .ok (.iload_n 1, 1) := by decide +kernel
theorem dX0_pairs_3 : decode cX0_pairs 3 = .ok (.invokestatic 47, 3) := by decide +kernel
theorem dX0_pairs_6 : decode cX0_pairs 6 = .ok (.ifCond .eq 18, 3) := by decide +kernel
theorem dX0_pairs_9 : decode cX0_pairs 9 = .ok (.iload_n 2, 1) := by decide +kernel
theorem dX0_pairs_10 : decode cX0_pairs 10 = .ok (.invokestatic 47, 3) := by decide +kernel
theorem dX0_pairs_13 : decode cX0_pairs 13 = .ok (.ifCond .eq 11, 3) := by decide +kernel
theorem dX0_pairs_16 : decode cX0_pairs 16 = .ok (.aload_n 0, 1) := by decide +kernel
theorem dX0_pairs_17 : decode cX0_pairs 17 = .ok (.iconst 0, 1) := by decide +kernel
theorem dX0_pairs_18 : decode cX0_pairs 18 = .ok (.invokevirtual 89, 3) := by decide +kernel
theorem dX0_pairs_21 : decode cX0_pairs 21 = .ok (.goto 4, 3) := by decide +kernel
theorem dX0_pairs_24 : decode cX0_pairs 24 = .ok (.iconst (-1), 1) := by decide +kernel
theorem dX0_pairs_25 : decode cX0_pairs 25 = .ok (.istore 5, 2) := by decide +kernel
theorem dX0_pairs_27 : decode cX0_pairs 27 = .ok (.iconst 0, 1) := by decide +kernel
theorem dX0_pairs_28 : decode cX0_pairs 28 = .ok (.istore 6, 2) := by decide +kernel
theorem dX0_pairs_30 : decode cX0_pairs 30 = .ok (.iload 6, 2) := by decide +kernel
theorem dX0_pairs_32 : decode cX0_pairs 32 = .ok (.sipush 4096, 3) := by decide +kernel
theorem dX0_pairs_35 : decode cX0_pairs 35 = .ok (.if_icmp .ge 49, 3) := by decide +kernel
theorem dX0_pairs_38 : decode cX0_pairs 38 = .ok (.iload 5, 2) := by decide +kernel
theorem dX0_pairs_40 : decode cX0_pairs 40 = .ok (.ifCond .lt 44, 3) := by decide +kernel
theorem dX0_pairs_43 : decode cX0_pairs 43 = .ok (.bipush 8, 2) := by decide +kernel
theorem dX0_pairs_45 : decode cX0_pairs 45 = .ok (.iload 5, 2) := by decide +kernel
theorem dX0_pairs_47 : decode cX0_pairs 47 = .ok (.iload_n 1, 1) := by decide +kernel
theorem dX0_pairs_48 : decode cX0_pairs 48 = .ok (.invokestatic 76, 3) := by decide +kernel
theorem dX0_pairs_51 : decode cX0_pairs 51 = .ok (.imul, 1) := by decide +kernel
theorem dX0_pairs_52 : decode cX0_pairs 52 = .ok (.iload 5, 2) := by decide +kernel
theorem dX0_pairs_54 : decode cX0_pairs 54 = .ok (.iload_n 2, 1) := by decide +kernel
theorem dX0_pairs_55 : decode cX0_pairs 55 = .ok (.invokestatic 76, 3) := by decide +kernel
theorem dX0_pairs_58 : decode cX0_pairs 58 = .ok (.iadd, 1) := by decide +kernel
theorem dX0_pairs_59 : decode cX0_pairs 59 = .ok (.istore 7, 2) := by decide +kernel
theorem dX0_pairs_61 : decode cX0_pairs 61 = .ok (.lload_n 3, 1) := by decide +kernel
theorem dX0_pairs_62 : decode cX0_pairs 62 = .ok (.lconst 1, 1) := by decide +kernel
theorem dX0_pairs_63 : decode cX0_pairs 63 = .ok (.iload 7, 2) := by decide +kernel
theorem dX0_pairs_65 : decode cX0_pairs 65 = .ok (.lshl, 1) := by decide +kernel
theorem dX0_pairs_66 : decode cX0_pairs 66 = .ok (.lor, 1) := by decide +kernel
theorem dX0_pairs_67 : decode cX0_pairs 67 = .ok (.lstore_n 3, 1) := by decide +kernel
theorem dX0_pairs_68 : decode cX0_pairs 68 = .ok (.aload_n 0, 1) := by decide +kernel
theorem dX0_pairs_69 : decode cX0_pairs 69 = .ok (.iload 5, 2) := by decide +kernel
theorem dX0_pairs_71 : decode cX0_pairs 71 = .ok (.iconst 1, 1) := by decide +kernel
theorem dX0_pairs_72 : decode cX0_pairs 72 = .ok (.iadd, 1) := by decide +kernel
theorem dX0_pairs_73 : decode cX0_pairs 73 = .ok (.invokevirtual 89, 3) := by decide +kernel
theorem dX0_pairs_76 : decode cX0_pairs 76 = .ok (.istore 5, 2) := by decide +kernel
theorem dX0_pairs_78 : decode cX0_pairs 78 = .ok (.iinc 6 1, 3) := by decide +kernel
theorem dX0_pairs_81 : decode cX0_pairs 81 = .ok (.goto (-51), 3) := by decide +kernel
theorem dX0_pairs_84 : decode cX0_pairs 84 = .ok (.iconst 0, 1) := by decide +kernel
theorem dX0_pairs_85 : decode cX0_pairs 85 = .ok (.istore 6, 2) := by decide +kernel
theorem dX0_pairs_87 : decode cX0_pairs 87 = .ok (.iconst 0, 1) := by decide +kernel
theorem dX0_pairs_88 : decode cX0_pairs 88 = .ok (.istore 7, 2) := by decide +kernel
theorem dX0_pairs_90 : decode cX0_pairs 90 = .ok (.iload 7, 2) := by decide +kernel
theorem dX0_pairs_92 : decode cX0_pairs 92 = .ok (.bipush 64, 2) := by decide +kernel
theorem dX0_pairs_94 : decode cX0_pairs 94 = .ok (.if_icmp .ge 21, 3) := by decide +kernel
theorem dX0_pairs_97 : decode cX0_pairs 97 = .ok (.iload 6, 2) := by decide +kernel
theorem dX0_pairs_99 : decode cX0_pairs 99 = .ok (.lload_n 3, 1) := by decide +kernel
theorem dX0_pairs_100 : decode cX0_pairs 100 = .ok (.iload 7, 2) := by decide +kernel
theorem dX0_pairs_102 : decode cX0_pairs 102 = .ok (.lushr, 1) := by decide +kernel
theorem dX0_pairs_103 : decode cX0_pairs 103 = .ok (.lconst 1, 1) := by decide +kernel
theorem dX0_pairs_104 : decode cX0_pairs 104 = .ok (.land, 1) := by decide +kernel
theorem dX0_pairs_105 : decode cX0_pairs 105 = .ok (.l2i, 1) := by decide +kernel
theorem dX0_pairs_106 : decode cX0_pairs 106 = .ok (.iadd, 1) := by decide +kernel
theorem dX0_pairs_107 : decode cX0_pairs 107 = .ok (.istore 6, 2) := by decide +kernel
theorem dX0_pairs_109 : decode cX0_pairs 109 = .ok (.iinc 7 1, 3) := by decide +kernel
theorem dX0_pairs_112 : decode cX0_pairs 112 = .ok (.goto (-22), 3) := by decide +kernel
theorem dX0_pairs_115 : decode cX0_pairs 115 = .ok (.iload 6, 2) := by decide +kernel
theorem dX0_pairs_117 : decode cX0_pairs 117 = .ok (.ireturn, 1) := by decide +kernel
abbrev cX0_loss : ByteArray := prog_1_method_29_code
def yX0_loss : MethodName := ⟨RX0, "loss", "(III)I"⟩
theorem dX0_loss_0 : decode cX0_loss 0 = .ok (.iload_n 1, 1) := by decide +kernel
theorem dX0_loss_1 : decode cX0_loss 1 = .ok (.invokestatic 32, 3) := by decide +kernel
theorem dX0_loss_4 : decode cX0_loss 4 = .ok (.ifCond .eq 17, 3) := by decide +kernel
theorem dX0_loss_7 : decode cX0_loss 7 = .ok (.iload_n 2, 1) := by decide +kernel
theorem dX0_loss_8 : decode cX0_loss 8 = .ok (.invokestatic 36, 3) := by decide +kernel
theorem dX0_loss_11 : decode cX0_loss 11 = .ok (.ifCond .eq 10, 3) := by decide +kernel
theorem dX0_loss_14 : decode cX0_loss 14 = .ok (.iload_n 3, 1) := by decide +kernel
theorem dX0_loss_15 : decode cX0_loss 15 = .ok (.invokestatic 36, 3) := by decide +kernel
theorem dX0_loss_18 : decode cX0_loss 18 = .ok (.ifCond .ne 5, 3) := by decide +kernel
theorem dX0_loss_21 : decode cX0_loss 21 = .ok (.iconst (-1), 1) := by decide +kernel
theorem dX0_loss_22 : decode cX0_loss 22 = .ok (.ireturn, 1) := by decide +kernel
theorem dX0_loss_23 : decode cX0_loss 23 = .ok (.aload_n 0, 1) := by decide +kernel
theorem dX0_loss_24 : decode cX0_loss 24 = .ok (.getfield 7, 3) := by decide +kernel
theorem dX0_loss_27 : decode cX0_loss 27 = .ok (.iload_n 1, 1) := by decide +kernel
theorem dX0_loss_28 : decode cX0_loss 28 = .ok (.bipush 8, 2) := by decide +kernel
theorem dX0_loss_30 : decode cX0_loss 30 = .ok (.imul, 1) := by decide +kernel
theorem dX0_loss_31 : decode cX0_loss 31 = .ok (.iload_n 2, 1) := by decide +kernel
theorem dX0_loss_32 : decode cX0_loss 32 = .ok (.iadd, 1) := by decide +kernel
theorem dX0_loss_33 : decode cX0_loss 33 = .ok (.saload, 1) := by decide +kernel
theorem dX0_loss_34 : decode cX0_loss 34 = .ok (.iload_n 3, 1) := by decide +kernel
theorem dX0_loss_35 : decode cX0_loss 35 = .ok (.invokestatic 54, 3) := by decide +kernel
theorem dX0_loss_38 : decode cX0_loss 38 = .ok (.ifCond .ne 5, 3) := by decide +kernel
theorem dX0_loss_41 : decode cX0_loss 41 = .ok (.iconst 0, 1) := by decide +kernel
theorem dX0_loss_42 : decode cX0_loss 42 = .ok (.ireturn, 1) := by decide +kernel
theorem dX0_loss_43 : decode cX0_loss 43 = .ok (.aload_n 0, 1) := by decide +kernel
theorem dX0_loss_44 : decode cX0_loss 44 = .ok (.invokevirtual 92, 3) := by decide +kernel
theorem dX0_loss_47 : decode cX0_loss 47 = .ok (.istore 4, 2) := by decide +kernel
theorem dX0_loss_49 : decode cX0_loss 49 = .ok (.aload_n 0, 1) := by decide +kernel
theorem dX0_loss_50 : decode cX0_loss 50 = .ok (.iload_n 1, 1) := by decide +kernel
theorem dX0_loss_51 : decode cX0_loss 51 = .ok (.iload_n 2, 1) := by decide +kernel
theorem dX0_loss_52 : decode cX0_loss 52 = .ok (.iload_n 3, 1) := by decide +kernel
theorem dX0_loss_53 : decode cX0_loss 53 = .ok (.iconst 0, 1) := by decide +kernel
theorem dX0_loss_54 : decode cX0_loss 54 = .ok (.invokevirtual 39, 3) := by decide +kernel
theorem dX0_loss_57 : decode cX0_loss 57 = .ok (.aload_n 0, 1) := by decide +kernel
theorem dX0_loss_58 : decode cX0_loss 58 = .ok (.invokevirtual 92, 3) := by decide +kernel
theorem dX0_loss_61 : decode cX0_loss 61 = .ok (.istore 5, 2) := by decide +kernel
theorem dX0_loss_63 : decode cX0_loss 63 = .ok (.aload_n 0, 1) := by decide +kernel
theorem dX0_loss_64 : decode cX0_loss 64 = .ok (.iload_n 1, 1) := by decide +kernel
theorem dX0_loss_65 : decode cX0_loss 65 = .ok (.iload_n 2, 1) := by decide +kernel
theorem dX0_loss_66 : decode cX0_loss 66 = .ok (.iload_n 3, 1) := by decide +kernel
theorem dX0_loss_67 : decode cX0_loss 67 = .ok (.iconst 1, 1) := by decide +kernel
theorem dX0_loss_68 : decode cX0_loss 68 = .ok (.invokevirtual 39, 3) := by decide +kernel
theorem dX0_loss_71 : decode cX0_loss 71 = .ok (.iload 4, 2) := by decide +kernel
theorem dX0_loss_73 : decode cX0_loss 73 = .ok (.iload 5, 2) := by decide +kernel
theorem dX0_loss_75 : decode cX0_loss 75 = .ok (.isub, 1) := by decide +kernel
theorem dX0_loss_76 : decode cX0_loss 76 = .ok (.ireturn, 1) := by decide +kernel
abbrev cX0_partners : ByteArray := prog_1_method_30_code
def yX0_partners : MethodName := ⟨RX0, "partners", "(III)I"⟩
theorem dX0_partners_0 : decode cX0_partners 0 = .ok (.iload_n 1, 1) := by decide +kernel
theorem dX0_partners_1 : decode cX0_partners 1 = .ok (.invokestatic 32, 3) := by decide +kernel
theorem dX0_partners_4 : decode cX0_partners 4 = .ok (.ifCond .eq 19, 3) := by decide +kernel
theorem dX0_partners_7 : decode cX0_partners 7 = .ok (.iload_n 2, 1) := by decide +kernel
theorem dX0_partners_8 : decode cX0_partners 8 = .ok (.invokestatic 36, 3) := by decide +kernel
theorem dX0_partners_11 : decode cX0_partners 11 = .ok (.ifCond .eq 12, 3) := by decide +kernel
theorem dX0_partners_14 : decode cX0_partners 14 = .ok (.iload_n 3, 1) := by decide +kernel
theorem dX0_partners_15 : decode cX0_partners 15 = .ok (.ifCond .lt 8, 3) := by decide +kernel
theorem dX0_partners_18 : decode cX0_partners 18 = .ok (.iload_n 3, 1) := by decide +kernel
theorem dX0_partners_19 : decode cX0_partners 19 = .ok (.iconst 1, 1) := by decide +kernel
theorem dX0_partners_20 : decode cX0_partners 20 = .ok (.if_icmp .le 5, 3) := by decide +kernel
theorem dX0_partners_23 : decode cX0_partners 23 = .ok (.iconst 0, 1) := by decide +kernel
theorem dX0_partners_24 : decode cX0_partners 24 = .ok (.ireturn, 1) := by decide +kernel
theorem dX0_partners_25 : decode cX0_partners 25 = .ok (.iload_n 3, 1) := by decide +kernel
theorem dX0_partners_26 : decode cX0_partners 26 = .ok (.ifCond .ne 17, 3) := by decide +kernel
theorem dX0_partners_29 : decode cX0_partners 29 = .ok (.aload_n 0, 1) := by decide +kernel
theorem dX0_partners_30 : decode cX0_partners 30 = .ok (.getfield 7, 3) := by decide +kernel
theorem dX0_partners_33 : decode cX0_partners 33 = .ok (.iload_n 1, 1) := by decide +kernel
theorem dX0_partners_34 : decode cX0_partners 34 = .ok (.bipush 8, 2) := by decide +kernel
theorem dX0_partners_36 : decode cX0_partners 36 = .ok (.imul, 1) := by decide +kernel
theorem dX0_partners_37 : decode cX0_partners 37 = .ok (.iload_n 2, 1) := by decide +kernel
theorem dX0_partners_38 : decode cX0_partners 38 = .ok (.iadd, 1) := by decide +kernel
theorem dX0_partners_39 : decode cX0_partners 39 = .ok (.saload, 1) := by decide +kernel
theorem dX0_partners_40 : decode cX0_partners 40 = .ok (.goto 14, 3) := by decide +kernel
theorem dX0_partners_43 : decode cX0_partners 43 = .ok (.aload_n 0, 1) := by decide +kernel
theorem dX0_partners_44 : decode cX0_partners 44 = .ok (.getfield 13, 3) := by decide +kernel
theorem dX0_partners_47 : decode cX0_partners 47 = .ok (.iload_n 1, 1) := by decide +kernel
theorem dX0_partners_48 : decode cX0_partners 48 = .ok (.bipush 8, 2) := by decide +kernel
theorem dX0_partners_50 : decode cX0_partners 50 = .ok (.imul, 1) := by decide +kernel
theorem dX0_partners_51 : decode cX0_partners 51 = .ok (.iload_n 2, 1) := by decide +kernel
theorem dX0_partners_52 : decode cX0_partners 52 = .ok (.iadd, 1) := by decide +kernel
theorem dX0_partners_53 : decode cX0_partners 53 = .ok (.saload, 1) := by decide +kernel
theorem dX0_partners_54 : decode cX0_partners 54 = .ok (.ireturn, 1) := by decide +kernel
end
section
set_option maxRecDepth 100000
def RX1 : String := "LeapJoinModel"
def TX1 : u_T := fun k => match k with
  | 0 => ("LeapJoinModel", "rows", "[I", false)
  | 1 => ("LeapJoinModel", "many", "I", false)
  | 2 => ("LeapJoinModel", "rels", "[I", false)
  | 3 => ("LeapJoinModel", "vs", "[I", false)
  | 4 => ("LeapJoinModel", "ws", "[I", false)
  | _ => ("LeapJoinModel", "seen", "[Z", false)
def tyX1 : Nat → FieldType := fun k => match k with
  | 0 => .array .int
  | 1 => .int
  | 2 => .array .int
  | 3 => .array .int
  | 4 => .array .int
  | _ => .array .boolean
abbrev wsX10 : List Cond := u_ws RX1 TX1 6
theorem nmX1 : ∀ a, a < 6 → ∀ b, b < 6 → a ≠ b → (TX1 a).2.1 ≠ (TX1 b).2.1 := by decide +kernel
theorem tyX1_ok : ∀ k, k < 6 → parseFieldDescriptor (TX1 k).2.2.1 = some (tyX1 k) := by decide +kernel
abbrev cX1_init : ByteArray := prog_3_method_1_code
def yX1_init : MethodName := ⟨RX1, "<init>", "()V"⟩
theorem dX1_init_0 : decode cX1_init 0 = .ok (.aload_n 0, 1) := by decide +kernel
theorem dX1_init_1 : decode cX1_init 1 = .ok (.invokespecial 1, 3) := by decide +kernel
theorem dX1_init_4 : decode cX1_init 4 = .ok (.aload_n 0, 1) := by decide +kernel
theorem dX1_init_5 : decode cX1_init 5 = .ok (.bipush 24, 2) := by decide +kernel
theorem dX1_init_7 : decode cX1_init 7 = .ok (.newarray .int, 2) := by decide +kernel
theorem dX1_init_9 : decode cX1_init 9 = .ok (.putfield 7, 3) := by decide +kernel
theorem dX1_init_12 : decode cX1_init 12 = .ok (.aload_n 0, 1) := by decide +kernel
theorem dX1_init_13 : decode cX1_init 13 = .ok (.iconst 5, 1) := by decide +kernel
theorem dX1_init_14 : decode cX1_init 14 = .ok (.newarray .int, 2) := by decide +kernel
theorem dX1_init_16 : decode cX1_init 16 = .ok (.putfield 13, 3) := by decide +kernel
theorem dX1_init_19 : decode cX1_init 19 = .ok (.aload_n 0, 1) := by decide +kernel
theorem dX1_init_20 : decode cX1_init 20 = .ok (.iconst 5, 1) := by decide +kernel
theorem dX1_init_21 : decode cX1_init 21 = .ok (.newarray .int, 2) := by decide +kernel
theorem dX1_init_23 : decode cX1_init 23 = .ok (.putfield 16, 3) := by decide +kernel
theorem dX1_init_26 : decode cX1_init 26 = .ok (.aload_n 0, 1) := by decide +kernel
theorem dX1_init_27 : decode cX1_init 27 = .ok (.iconst 5, 1) := by decide +kernel
theorem dX1_init_28 : decode cX1_init 28 = .ok (.newarray .int, 2) := by decide +kernel
theorem dX1_init_30 : decode cX1_init 30 = .ok (.putfield 19, 3) := by decide +kernel
theorem dX1_init_33 : decode cX1_init 33 = .ok (.aload_n 0, 1) := by decide +kernel
theorem dX1_init_34 : decode cX1_init 34 = .ok (.bipush 64, 2) := by decide +kernel
theorem dX1_init_36 : decode cX1_init 36 = .ok (.newarray .boolean, 2) := by decide +kernel
theorem dX1_init_38 : decode cX1_init 38 = .ok (.putfield 22, 3) := by decide +kernel
theorem dX1_init_41 : decode cX1_init 41 = .ok (.return_, 1) := by decide +kernel
abbrev cX1_pair : ByteArray := prog_3_method_6_code
def yX1_pair : MethodName := ⟨RX1, "pair", "(IIIZ)Z"⟩
theorem dX1_pair_0 : decode cX1_pair 0 = .ok (.aload_n 0, 1) := by decide +kernel
theorem dX1_pair_1 : decode cX1_pair 1 = .ok (.iload_n 1, 1) := by decide +kernel
theorem dX1_pair_2 : decode cX1_pair 2 = .ok (.invokevirtual 26, 3) := by decide +kernel
theorem dX1_pair_5 : decode cX1_pair 5 = .ok (.ifCond .eq 19, 3) := by decide +kernel
theorem dX1_pair_8 : decode cX1_pair 8 = .ok (.aload_n 0, 1) := by decide +kernel
theorem dX1_pair_9 : decode cX1_pair 9 = .ok (.iload_n 2, 1) := by decide +kernel
theorem dX1_pair_10 : decode cX1_pair 10 = .ok (.invokevirtual 30, 3) := by decide +kernel
theorem dX1_pair_13 : decode cX1_pair 13 = .ok (.ifCond .eq 11, 3) := by decide +kernel
theorem dX1_pair_16 : decode cX1_pair 16 = .ok (.aload_n 0, 1) := by decide +kernel
theorem dX1_pair_17 : decode cX1_pair 17 = .ok (.iload_n 3, 1) := by decide +kernel
theorem dX1_pair_18 : decode cX1_pair 18 = .ok (.invokevirtual 30, 3) := by decide +kernel
theorem dX1_pair_21 : decode cX1_pair 21 = .ok (.ifCond .ne 5, 3) := by decide +kernel
theorem dX1_pair_24 : decode cX1_pair 24 = .ok (.iconst 0, 1) := by decide +kernel
theorem dX1_pair_25 : decode cX1_pair 25 = .ok (.ireturn, 1) := by decide +kernel
theorem dX1_pair_26 : decode cX1_pair 26 = .ok (.aload_n 0, 1) := by decide +kernel
theorem dX1_pair_27 : decode cX1_pair 27 = .ok (.getfield 7, 3) := by decide +kernel
theorem dX1_pair_30 : decode cX1_pair 30 = .ok (.bipush 8, 2) := by decide +kernel
theorem dX1_pair_32 : decode cX1_pair 32 = .ok (.iload_n 1, 1) := by decide +kernel
theorem dX1_pair_33 : decode cX1_pair 33 = .ok (.imul, 1) := by decide +kernel
theorem dX1_pair_34 : decode cX1_pair 34 = .ok (.iload_n 2, 1) := by decide +kernel
theorem dX1_pair_35 : decode cX1_pair 35 = .ok (.iadd, 1) := by decide +kernel
theorem dX1_pair_36 : decode cX1_pair 36 = .ok (.iload 4, 2) := by decide +kernel
theorem dX1_pair_38 : decode cX1_pair 38 = .ok (.ifCond .eq 21, 3) := by decide +kernel
theorem dX1_pair_41 : decode cX1_pair 41 = .ok (.aload_n 0, 1) := by decide +kernel
theorem dX1_pair_42 : decode cX1_pair 42 = .ok (.getfield 7, 3) := by decide +kernel
theorem dX1_pair_45 : decode cX1_pair 45 = .ok (.bipush 8, 2) := by decide +kernel
theorem dX1_pair_47 : decode cX1_pair 47 = .ok (.iload_n 1, 1) := by decide +kernel
theorem dX1_pair_48 : decode cX1_pair 48 = .ok (.imul, 1) := by decide +kernel
theorem dX1_pair_49 : decode cX1_pair 49 = .ok (.iload_n 2, 1) := by decide +kernel
theorem dX1_pair_50 : decode cX1_pair 50 = .ok (.iadd, 1) := by decide +kernel
theorem dX1_pair_51 : decode cX1_pair 51 = .ok (.iaload, 1) := by decide +kernel
theorem dX1_pair_52 : decode cX1_pair 52 = .ok (.iconst 1, 1) := by decide +kernel
theorem dX1_pair_53 : decode cX1_pair 53 = .ok (.iload_n 3, 1) := by decide +kernel
theorem dX1_pair_54 : decode cX1_pair 54 = .ok (.ishl, 1) := by decide +kernel
theorem dX1_pair_55 : decode cX1_pair 55 = .ok (.ior, 1) := by decide +kernel
theorem dX1_pair_56 : decode cX1_pair 56 = .ok (.goto 20, 3) := by decide +kernel
theorem dX1_pair_59 : decode cX1_pair 59 = .ok (.aload_n 0, 1) := by decide +kernel
theorem dX1_pair_60 : decode cX1_pair 60 = .ok (.getfield 7, 3) := by decide +kernel
theorem dX1_pair_63 : decode cX1_pair 63 = .ok (.bipush 8, 2) := by decide +kernel
theorem dX1_pair_65 : decode cX1_pair 65 = .ok (.iload_n 1, 1) := by decide +kernel
theorem dX1_pair_66 : decode cX1_pair 66 = .ok (.imul, 1) := by decide +kernel
theorem dX1_pair_67 : decode cX1_pair 67 = .ok (.iload_n 2, 1) := by decide +kernel
theorem dX1_pair_68 : decode cX1_pair 68 = .ok (.iadd, 1) := by decide +kernel
theorem dX1_pair_69 : decode cX1_pair 69 = .ok (.iaload, 1) := by decide +kernel
theorem dX1_pair_70 : decode cX1_pair 70 = .ok (.iconst 1, 1) := by decide +kernel
theorem dX1_pair_71 : decode cX1_pair 71 = .ok (.iload_n 3, 1) := by decide +kernel
theorem dX1_pair_72 : decode cX1_pair 72 = .ok (.ishl, 1) := by decide +kernel
theorem dX1_pair_73 : decode cX1_pair 73 = .ok (.iconst (-1), 1) := by decide +kernel
theorem dX1_pair_74 : decode cX1_pair 74 = .ok (.ixor, 1) := by decide +kernel
theorem dX1_pair_75 : decode cX1_pair 75 = .ok (.iand, 1) := by decide +kernel
theorem dX1_pair_76 : decode cX1_pair 76 = .ok (.iastore, 1) := by decide +kernel
theorem dX1_pair_77 : decode cX1_pair 77 = .ok (.iconst 1, 1) := by decide +kernel
theorem dX1_pair_78 : decode cX1_pair 78 = .ok (.ireturn, 1) := by decide +kernel
abbrev cX1_relation : ByteArray := prog_3_method_2_code
def yX1_relation : MethodName := ⟨RX1, "relation", "(I)Z"⟩
theorem dX1_relation_0 : decode cX1_relation 0 = .ok (.iload_n 1, 1) := by decide +kernel
theorem dX1_relation_1 : decode cX1_relation 1 = .ok (.ifCond .lt 12, 3) := by decide +kernel
theorem dX1_relation_4 : decode cX1_relation 4 = .ok (.iload_n 1, 1) := by decide +kernel
theorem dX1_relation_5 : decode cX1_relation 5 = .ok (.iconst 2, 1) := by decide +kernel
theorem dX1_relation_6 : decode cX1_relation 6 = .ok (.if_icmp .gt 7, 3) := by decide +kernel
theorem dX1_relation_9 : decode cX1_relation 9 = .ok (.iconst 1, 1) := by decide +kernel
theorem dX1_relation_10 : decode cX1_relation 10 = .ok (.goto 4, 3) := by decide +kernel
theorem dX1_relation_13 : decode cX1_relation 13 = .ok (.iconst 0, 1) := by decide +kernel
theorem dX1_relation_14 : decode cX1_relation 14 = .ok (.ireturn, 1) := by decide +kernel
abbrev cX1_thing : ByteArray := prog_3_method_3_code
def yX1_thing : MethodName := ⟨RX1, "thing", "(I)Z"⟩
theorem dX1_thing_0 : decode cX1_thing 0 = .ok (.iload_n 1, 1) := by decide +kernel
theorem dX1_thing_1 : decode cX1_thing 1 = .ok (.ifCond .lt 13, 3) := by decide +kernel
theorem dX1_thing_4 : decode cX1_thing 4 = .ok (.iload_n 1, 1) := by decide +kernel
theorem dX1_thing_5 : decode cX1_thing 5 = .ok (.bipush 7, 2) := by decide +kernel
theorem dX1_thing_7 : decode cX1_thing 7 = .ok (.if_icmp .gt 7, 3) := by decide +kernel
theorem dX1_thing_10 : decode cX1_thing 10 = .ok (.iconst 1, 1) := by decide +kernel
theorem dX1_thing_11 : decode cX1_thing 11 = .ok (.goto 4, 3) := by decide +kernel
theorem dX1_thing_14 : decode cX1_thing 14 = .ok (.iconst 0, 1) := by decide +kernel
theorem dX1_thing_15 : decode cX1_thing 15 = .ok (.ireturn, 1) := by decide +kernel
abbrev cX1_size : ByteArray := prog_3_method_7_code
def yX1_size : MethodName := ⟨RX1, "size", "(I)I"⟩
theorem dX1_size_0 : decode cX1_size 0 = .ok (.iconst 0, 1) := by decide +kernel
theorem dX1_size_1 : decode cX1_size 1 = .ok (.istore_n 2, 1) := by decide +kernel
theorem dX1_size_2 : decode cX1_size 2 = .ok (.iconst 0, 1) := by decide +kernel
theorem dX1_size_3 : decode cX1_size 3 = .ok (.istore_n 3, 1) := by decide +kernel
theorem dX1_size_4 : decode cX1_size 4 = .ok (.iload_n 3, 1) := by decide +kernel
theorem dX1_size_5 : decode cX1_size 5 = .ok (.bipush 64, 2) := by decide +kernel
theorem dX1_size_7 : decode cX1_size 7 = .ok (.if_icmp .ge 41, 3) := by decide +kernel
theorem dX1_size_10 : decode cX1_size 10 = .ok (.aload_n 0, 1) := by decide +kernel
theorem dX1_size_11 : decode cX1_size 11 = .ok (.iload_n 1, 1) := by decide +kernel
theorem dX1_size_12 : decode cX1_size 12 = .ok (.invokevirtual 26, 3) := by decide +kernel
theorem dX1_size_15 : decode cX1_size 15 = .ok (.ifCond .eq 33, 3) := by decide +kernel
theorem dX1_size_18 : decode cX1_size 18 = .ok (.aload_n 0, 1) := by decide +kernel
theorem dX1_size_19 : decode cX1_size 19 = .ok (.iload_n 1, 1) := by decide +kernel
theorem dX1_size_20 : decode cX1_size 20 = .ok (.iload_n 3, 1) := by decide +kernel
theorem dX1_size_21 : decode cX1_size 21 = .ok (.bipush 8, 2) := by decide +kernel
theorem dX1_size_23 : decode cX1_size 23 = .ok (.idiv, 1) := by decide +kernel
theorem dX1_size_24 : decode cX1_size 24 = .ok (.iload_n 3, 1) := by decide +kernel
theorem dX1_size_25 : decode cX1_size 25 = .ok (.bipush 8, 2) := by decide +kernel
theorem dX1_size_27 : decode cX1_size 27 = .ok (.irem, 1) := by decide +kernel
theorem dX1_size_28 : decode cX1_size 28 = .ok (.invokevirtual 33, 3) := by decide +kernel
theorem dX1_size_31 : decode cX1_size 31 = .ok (.ifCond .eq 9, 3) := by decide +kernel
theorem dX1_size_34 : decode cX1_size 34 = .ok (.iload_n 2, 1) := by decide +kernel
theorem dX1_size_35 : decode cX1_size 35 = .ok (.iconst 1, 1) := by decide +kernel
theorem dX1_size_36 : decode cX1_size 36 = .ok (.iadd, 1) := by decide +kernel
theorem dX1_size_37 : decode cX1_size 37 = .ok (.goto 4, 3) := by decide +kernel
theorem dX1_size_40 : decode cX1_size 40 = .ok (.iload_n 2, 1) := by decide +kernel
theorem dX1_size_41 : decode cX1_size 41 = .ok (.istore_n 2, 1) := by decide +kernel
theorem dX1_size_42 : decode cX1_size 42 = .ok (.iinc 3 1, 3) := by decide +kernel
theorem dX1_size_45 : decode cX1_size 45 = .ok (.goto (-41), 3) := by decide +kernel
theorem dX1_size_48 : decode cX1_size 48 = .ok (.aload_n 0, 1) := by decide +kernel
theorem dX1_size_49 : decode cX1_size 49 = .ok (.iload_n 1, 1) := by decide +kernel
theorem dX1_size_50 : decode cX1_size 50 = .ok (.invokevirtual 26, 3) := by decide +kernel
theorem dX1_size_53 : decode cX1_size 53 = .ok (.ifCond .eq 7, 3) := by decide +kernel
theorem dX1_size_56 : decode cX1_size 56 = .ok (.iload_n 2, 1) := by decide +kernel
theorem dX1_size_57 : decode cX1_size 57 = .ok (.goto 4, 3) := by decide +kernel
theorem dX1_size_60 : decode cX1_size 60 = .ok (.iconst (-1), 1) := by decide +kernel
theorem dX1_size_61 : decode cX1_size 61 = .ok (.ireturn, 1) := by decide +kernel
abbrev cX1_in : ByteArray := prog_3_method_5_code
def yX1_in : MethodName := ⟨RX1, "in", "(III)Z"⟩
theorem dX1_in_0 : decode cX1_in 0 = .ok (.aload_n 0, 1) := by decide +kernel
theorem dX1_in_1 : decode cX1_in 1 = .ok (.getfield 7, 3) := by decide +kernel
theorem dX1_in_4 : decode cX1_in 4 = .ok (.bipush 8, 2) := by decide +kernel
theorem dX1_in_6 : decode cX1_in 6 = .ok (.iload_n 1, 1) := by decide +kernel
theorem dX1_in_7 : decode cX1_in 7 = .ok (.imul, 1) := by decide +kernel
theorem dX1_in_8 : decode cX1_in 8 = .ok (.iload_n 2, 1) := by decide +kernel
theorem dX1_in_9 : decode cX1_in 9 = .ok (.iadd, 1) := by decide +kernel
theorem dX1_in_10 : decode cX1_in 10 = .ok (.iaload, 1) := by decide +kernel
theorem dX1_in_11 : decode cX1_in 11 = .ok (.iload_n 3, 1) := by decide +kernel
theorem dX1_in_12 : decode cX1_in 12 = .ok (.ishr, 1) := by decide +kernel
theorem dX1_in_13 : decode cX1_in 13 = .ok (.iconst 1, 1) := by decide +kernel
theorem dX1_in_14 : decode cX1_in 14 = .ok (.iand, 1) := by decide +kernel
theorem dX1_in_15 : decode cX1_in 15 = .ok (.iconst 1, 1) := by decide +kernel
theorem dX1_in_16 : decode cX1_in 16 = .ok (.if_icmp .ne 7, 3) := by decide +kernel
theorem dX1_in_19 : decode cX1_in 19 = .ok (.iconst 1, 1) := by decide +kernel
theorem dX1_in_20 : decode cX1_in 20 = .ok (.goto 4, 3) := by decide +kernel
theorem dX1_in_23 : decode cX1_in 23 = .ok (.iconst 0, 1) := by decide +kernel
theorem dX1_in_24 : decode cX1_in 24 = .ok (.ireturn, 1) := by decide +kernel
abbrev cX1_atom : ByteArray := prog_3_method_8_code
def yX1_atom : MethodName := ⟨RX1, "atom", "(III)I"⟩
theorem dX1_atom_0 : decode cX1_atom 0 = .ok (.aload_n 0, 1) := by decide +kernel
theorem dX1_atom_1 : decode cX1_atom 1 = .ok (.iload_n 1, 1) := by decide +kernel
theorem dX1_atom_2 : decode cX1_atom 2 = .ok (.invokevirtual 26, 3) := by decide +kernel
theorem dX1_atom_5 : decode cX1_atom 5 = .ok (.ifCond .eq 19, 3) := by decide +kernel
theorem dX1_atom_8 : decode cX1_atom 8 = .ok (.aload_n 0, 1) := by decide +kernel
theorem dX1_atom_9 : decode cX1_atom 9 = .ok (.iload_n 2, 1) := by decide +kernel
theorem dX1_atom_10 : decode cX1_atom 10 = .ok (.invokevirtual 37, 3) := by decide +kernel
theorem dX1_atom_13 : decode cX1_atom 13 = .ok (.ifCond .eq 11, 3) := by decide +kernel
theorem dX1_atom_16 : decode cX1_atom 16 = .ok (.aload_n 0, 1) := by decide +kernel
theorem dX1_atom_17 : decode cX1_atom 17 = .ok (.iload_n 3, 1) := by decide +kernel
theorem dX1_atom_18 : decode cX1_atom 18 = .ok (.invokevirtual 37, 3) := by decide +kernel
theorem dX1_atom_21 : decode cX1_atom 21 = .ok (.ifCond .ne 5, 3) := by decide +kernel
theorem dX1_atom_24 : decode cX1_atom 24 = .ok (.iconst (-1), 1) := by decide +kernel
theorem dX1_atom_25 : decode cX1_atom 25 = .ok (.ireturn, 1) := by decide +kernel
theorem dX1_atom_26 : decode cX1_atom 26 = .ok (.aload_n 0, 1) := by decide +kernel
theorem dX1_atom_27 : decode cX1_atom 27 = .ok (.getfield 40, 3) := by decide +kernel
theorem dX1_atom_30 : decode cX1_atom 30 = .ok (.iconst 5, 1) := by decide +kernel
theorem dX1_atom_31 : decode cX1_atom 31 = .ok (.if_icmp .lt 6, 3) := by decide +kernel
theorem dX1_atom_34 : decode cX1_atom 34 = .ok (.bipush (-2), 2) := by decide +kernel
theorem dX1_atom_36 : decode cX1_atom 36 = .ok (.ireturn, 1) := by decide +kernel
theorem dX1_atom_37 : decode cX1_atom 37 = .ok (.aload_n 0, 1) := by decide +kernel
theorem dX1_atom_38 : decode cX1_atom 38 = .ok (.getfield 13, 3) := by decide +kernel
theorem dX1_atom_41 : decode cX1_atom 41 = .ok (.aload_n 0, 1) := by decide +kernel
theorem dX1_atom_42 : decode cX1_atom 42 = .ok (.getfield 40, 3) := by decide +kernel
theorem dX1_atom_45 : decode cX1_atom 45 = .ok (.iload_n 1, 1) := by decide +kernel
theorem dX1_atom_46 : decode cX1_atom 46 = .ok (.iastore, 1) := by decide +kernel
theorem dX1_atom_47 : decode cX1_atom 47 = .ok (.aload_n 0, 1) := by decide +kernel
theorem dX1_atom_48 : decode cX1_atom 48 = .ok (.getfield 16, 3) := by decide +kernel
theorem dX1_atom_51 : decode cX1_atom 51 = .ok (.aload_n 0, 1) := by decide +kernel
theorem dX1_atom_52 : decode cX1_atom 52 = .ok (.getfield 40, 3) := by decide +kernel
theorem dX1_atom_55 : decode cX1_atom 55 = .ok (.iload_n 2, 1) := by decide +kernel
theorem dX1_atom_56 : decode cX1_atom 56 = .ok (.iastore, 1) := by decide +kernel
theorem dX1_atom_57 : decode cX1_atom 57 = .ok (.aload_n 0, 1) := by decide +kernel
theorem dX1_atom_58 : decode cX1_atom 58 = .ok (.getfield 19, 3) := by decide +kernel
theorem dX1_atom_61 : decode cX1_atom 61 = .ok (.aload_n 0, 1) := by decide +kernel
theorem dX1_atom_62 : decode cX1_atom 62 = .ok (.getfield 40, 3) := by decide +kernel
theorem dX1_atom_65 : decode cX1_atom 65 = .ok (.iload_n 3, 1) := by decide +kernel
theorem dX1_atom_66 : decode cX1_atom 66 = .ok (.iastore, 1) := by decide +kernel
theorem dX1_atom_67 : decode cX1_atom 67 = .ok (.aload_n 0, 1) := by decide +kernel
theorem dX1_atom_68 : decode cX1_atom 68 = .ok (.dup, 1) := by decide +kernel
theorem dX1_atom_69 : decode cX1_atom 69 = .ok (.getfield 40, 3) := by decide +kernel
theorem dX1_atom_72 : decode cX1_atom 72 = .ok (.iconst 1, 1) := by decide +kernel
theorem dX1_atom_73 : decode cX1_atom 73 = .ok (.iadd, 1) := by decide +kernel
theorem dX1_atom_74 : decode cX1_atom 74 = .ok (.putfield 40, 3) := by decide +kernel
theorem dX1_atom_77 : decode cX1_atom 77 = .ok (.aload_n 0, 1) := by decide +kernel
theorem dX1_atom_78 : decode cX1_atom 78 = .ok (.getfield 40, 3) := by decide +kernel
theorem dX1_atom_81 : decode cX1_atom 81 = .ok (.ireturn, 1) := by decide +kernel
abbrev cX1_variable : ByteArray := prog_3_method_4_code
def yX1_variable : MethodName := ⟨RX1, "variable", "(I)Z"⟩
theorem dX1_variable_0 : decode cX1_variable 0 = .ok (.iload_n 1, 1) := by decide +kernel
theorem dX1_variable_1 : decode cX1_variable 1 = .ok (.ifCond .lt 12, 3) := by decide +kernel
theorem dX1_variable_4 : decode cX1_variable 4 = .ok (.iload_n 1, 1) := by decide +kernel
theorem dX1_variable_5 : decode cX1_variable 5 = .ok (.iconst 3, 1) := by decide +kernel
theorem dX1_variable_6 : decode cX1_variable 6 = .ok (.if_icmp .gt 7, 3) := by decide +kernel
theorem dX1_variable_9 : decode cX1_variable 9 = .ok (.iconst 1, 1) := by decide +kernel
theorem dX1_variable_10 : decode cX1_variable 10 = .ok (.goto 4, 3) := by decide +kernel
theorem dX1_variable_13 : decode cX1_variable 13 = .ok (.iconst 0, 1) := by decide +kernel
theorem dX1_variable_14 : decode cX1_variable 14 = .ok (.ireturn, 1) := by decide +kernel
abbrev cX1_drop : ByteArray := prog_3_method_9_code
def yX1_drop : MethodName := ⟨RX1, "drop", "()I"⟩
theorem dX1_drop_0 : decode cX1_drop 0 = .ok (.aload_n 0, 1) := by decide +kernel
theorem dX1_drop_1 : decode cX1_drop 1 = .ok (.getfield 40, 3) := by decide +kernel
theorem dX1_drop_4 : decode cX1_drop 4 = .ok (.ifCond .ne 5, 3) := by decide +kernel
theorem dX1_drop_7 : decode cX1_drop 7 = .ok (.iconst (-1), 1) := by decide +kernel
theorem dX1_drop_8 : decode cX1_drop 8 = .ok (.ireturn, 1) := by decide +kernel
theorem dX1_drop_9 : decode cX1_drop 9 = .ok (.aload_n 0, 1) := by decide +kernel
theorem dX1_drop_10 : decode cX1_drop 10 = .ok (.dup, 1) := by decide +kernel
theorem dX1_drop_11 : decode cX1_drop 11 = .ok (.getfield 40, 3) := by decide +kernel
theorem dX1_drop_14 : decode cX1_drop 14 = .ok (.iconst 1, 1) := by decide +kernel
theorem dX1_drop_15 : decode cX1_drop 15 = .ok (.isub, 1) := by decide +kernel
theorem dX1_drop_16 : decode cX1_drop 16 = .ok (.putfield 40, 3) := by decide +kernel
theorem dX1_drop_19 : decode cX1_drop 19 = .ok (.aload_n 0, 1) := by decide +kernel
theorem dX1_drop_20 : decode cX1_drop 20 = .ok (.getfield 40, 3) := by decide +kernel
theorem dX1_drop_23 : decode cX1_drop 23 = .ok (.ireturn, 1) := by decide +kernel
abbrev cX1_count : ByteArray := prog_3_method_12_code
def yX1_count : MethodName := ⟨RX1, "count", "()I"⟩
theorem dX1_count_0 : decode cX1_count 0 = .ok (.iconst 0, 1) := by decide +kernel
theorem dX1_count_1 : decode cX1_count 1 = .ok (.istore_n 1, 1) := by decide +kernel
theorem dX1_count_2 : decode cX1_count 2 = .ok (.iconst 0, 1) := by decide +kernel
theorem dX1_count_3 : decode cX1_count 3 = .ok (.istore_n 2, 1) := by decide +kernel
theorem dX1_count_4 : decode cX1_count 4 = .ok (.iload_n 2, 1) := by decide +kernel
theorem dX1_count_5 : decode cX1_count 5 = .ok (.sipush 4096, 3) := by decide +kernel
theorem dX1_count_8 : decode cX1_count 8 = .ok (.if_icmp .ge 25, 3) := by decide +kernel
theorem dX1_count_11 : decode cX1_count 11 = .ok (.aload_n 0, 1) := by decide +kernel
theorem dX1_count_12 : decode cX1_count 12 = .ok (.iload_n 2, 1) := by decide +kernel
theorem dX1_count_13 : decode cX1_count 13 = .ok (.invokevirtual 48, 3) := by decide +kernel
theorem dX1_count_16 : decode cX1_count 16 = .ok (.ifCond .eq 9, 3) := by decide +kernel
theorem dX1_count_19 : decode cX1_count 19 = .ok (.iload_n 1, 1) := by decide +kernel
theorem dX1_count_20 : decode cX1_count 20 = .ok (.iconst 1, 1) := by decide +kernel
theorem dX1_count_21 : decode cX1_count 21 = .ok (.iadd, 1) := by decide +kernel
theorem dX1_count_22 : decode cX1_count 22 = .ok (.goto 4, 3) := by decide +kernel
theorem dX1_count_25 : decode cX1_count 25 = .ok (.iload_n 1, 1) := by decide +kernel
theorem dX1_count_26 : decode cX1_count 26 = .ok (.istore_n 1, 1) := by decide +kernel
theorem dX1_count_27 : decode cX1_count 27 = .ok (.iinc 2 1, 3) := by decide +kernel
theorem dX1_count_30 : decode cX1_count 30 = .ok (.goto (-26), 3) := by decide +kernel
theorem dX1_count_33 : decode cX1_count 33 = .ok (.iload_n 1, 1) := by decide +kernel
theorem dX1_count_34 : decode cX1_count 34 = .ok (.ireturn, 1) := by decide +kernel
abbrev cX1_isAnswer : ByteArray := prog_3_method_11_code
def yX1_isAnswer : MethodName := ⟨RX1, "isAnswer", "(I)Z"⟩
theorem dX1_isAnswer_0 : decode cX1_isAnswer 0 = .ok (.iconst 0, 1) := by decide +kernel
theorem dX1_isAnswer_1 : decode cX1_isAnswer 1 = .ok (.istore_n 2, 1) := by decide +kernel
theorem dX1_isAnswer_2 : decode cX1_isAnswer 2 = .ok (.iconst 1, 1) := by decide +kernel
theorem dX1_isAnswer_3 : decode cX1_isAnswer 3 = .ok (.istore_n 3, 1) := by decide +kernel
theorem dX1_isAnswer_4 : decode cX1_isAnswer 4 = .ok (.iconst 0, 1) := by decide +kernel
theorem dX1_isAnswer_5 : decode cX1_isAnswer 5 = .ok (.istore 4, 2) := by decide +kernel
theorem dX1_isAnswer_7 : decode cX1_isAnswer 7 = .ok (.iload 4, 2) := by decide +kernel
theorem dX1_isAnswer_9 : decode cX1_isAnswer 9 = .ok (.aload_n 0, 1) := by decide +kernel
theorem dX1_isAnswer_10 : decode cX1_isAnswer 10 = .ok (.getfield 40, 3) := by decide +kernel
theorem dX1_isAnswer_13 : decode cX1_isAnswer 13 = .ok (.if_icmp .ge 71, 3) := by decide +kernel
theorem dX1_isAnswer_16 : decode cX1_isAnswer 16 = .ok (.iload_n 3, 1) := by decide +kernel
theorem dX1_isAnswer_17 : decode cX1_isAnswer 17 = .ok (.ifCond .eq 67, 3) := by decide +kernel
theorem dX1_isAnswer_20 : decode cX1_isAnswer 20 = .ok (.iload_n 2, 1) := by decide +kernel
theorem dX1_isAnswer_21 : decode cX1_isAnswer 21 = .ok (.iconst 1, 1) := by decide +kernel
theorem dX1_isAnswer_22 : decode cX1_isAnswer 22 = .ok (.aload_n 0, 1) := by decide +kernel
theorem dX1_isAnswer_23 : decode cX1_isAnswer 23 = .ok (.getfield 16, 3) := by decide +kernel
theorem dX1_isAnswer_26 : decode cX1_isAnswer 26 = .ok (.iload 4, 2) := by decide +kernel
theorem dX1_isAnswer_28 : decode cX1_isAnswer 28 = .ok (.iaload, 1) := by decide +kernel
theorem dX1_isAnswer_29 : decode cX1_isAnswer 29 = .ok (.ishl, 1) := by decide +kernel
theorem dX1_isAnswer_30 : decode cX1_isAnswer 30 = .ok (.ior, 1) := by decide +kernel
theorem dX1_isAnswer_31 : decode cX1_isAnswer 31 = .ok (.iconst 1, 1) := by decide +kernel
theorem dX1_isAnswer_32 : decode cX1_isAnswer 32 = .ok (.aload_n 0, 1) := by decide +kernel
theorem dX1_isAnswer_33 : decode cX1_isAnswer 33 = .ok (.getfield 19, 3) := by decide +kernel
theorem dX1_isAnswer_36 : decode cX1_isAnswer 36 = .ok (.iload 4, 2) := by decide +kernel
theorem dX1_isAnswer_38 : decode cX1_isAnswer 38 = .ok (.iaload, 1) := by decide +kernel
theorem dX1_isAnswer_39 : decode cX1_isAnswer 39 = .ok (.ishl, 1) := by decide +kernel
theorem dX1_isAnswer_40 : decode cX1_isAnswer 40 = .ok (.ior, 1) := by decide +kernel
theorem dX1_isAnswer_41 : decode cX1_isAnswer 41 = .ok (.istore_n 2, 1) := by decide +kernel
theorem dX1_isAnswer_42 : decode cX1_isAnswer 42 = .ok (.aload_n 0, 1) := by decide +kernel
theorem dX1_isAnswer_43 : decode cX1_isAnswer 43 = .ok (.aload_n 0, 1) := by decide +kernel
theorem dX1_isAnswer_44 : decode cX1_isAnswer 44 = .ok (.getfield 13, 3) := by decide +kernel
theorem dX1_isAnswer_47 : decode cX1_isAnswer 47 = .ok (.iload 4, 2) := by decide +kernel
theorem dX1_isAnswer_49 : decode cX1_isAnswer 49 = .ok (.iaload, 1) := by decide +kernel
theorem dX1_isAnswer_50 : decode cX1_isAnswer 50 = .ok (.aload_n 0, 1) := by decide +kernel
theorem dX1_isAnswer_51 : decode cX1_isAnswer 51 = .ok (.iload_n 1, 1) := by decide +kernel
theorem dX1_isAnswer_52 : decode cX1_isAnswer 52 = .ok (.aload_n 0, 1) := by decide +kernel
theorem dX1_isAnswer_53 : decode cX1_isAnswer 53 = .ok (.getfield 16, 3) := by decide +kernel
theorem dX1_isAnswer_56 : decode cX1_isAnswer 56 = .ok (.iload 4, 2) := by decide +kernel
theorem dX1_isAnswer_58 : decode cX1_isAnswer 58 = .ok (.iaload, 1) := by decide +kernel
theorem dX1_isAnswer_59 : decode cX1_isAnswer 59 = .ok (.invokevirtual 44, 3) := by decide +kernel
theorem dX1_isAnswer_62 : decode cX1_isAnswer 62 = .ok (.aload_n 0, 1) := by decide +kernel
theorem dX1_isAnswer_63 : decode cX1_isAnswer 63 = .ok (.iload_n 1, 1) := by decide +kernel
theorem dX1_isAnswer_64 : decode cX1_isAnswer 64 = .ok (.aload_n 0, 1) := by decide +kernel
theorem dX1_isAnswer_65 : decode cX1_isAnswer 65 = .ok (.getfield 19, 3) := by decide +kernel
theorem dX1_isAnswer_68 : decode cX1_isAnswer 68 = .ok (.iload 4, 2) := by decide +kernel
theorem dX1_isAnswer_70 : decode cX1_isAnswer 70 = .ok (.iaload, 1) := by decide +kernel
theorem dX1_isAnswer_71 : decode cX1_isAnswer 71 = .ok (.invokevirtual 44, 3) := by decide +kernel
theorem dX1_isAnswer_74 : decode cX1_isAnswer 74 = .ok (.invokevirtual 33, 3) := by decide +kernel
theorem dX1_isAnswer_77 : decode cX1_isAnswer 77 = .ok (.istore_n 3, 1) := by decide +kernel
theorem dX1_isAnswer_78 : decode cX1_isAnswer 78 = .ok (.iinc 4 1, 3) := by decide +kernel
theorem dX1_isAnswer_81 : decode cX1_isAnswer 81 = .ok (.goto (-74), 3) := by decide +kernel
theorem dX1_isAnswer_84 : decode cX1_isAnswer 84 = .ok (.iconst 0, 1) := by decide +kernel
theorem dX1_isAnswer_85 : decode cX1_isAnswer 85 = .ok (.istore 4, 2) := by decide +kernel
theorem dX1_isAnswer_87 : decode cX1_isAnswer 87 = .ok (.iload 4, 2) := by decide +kernel
theorem dX1_isAnswer_89 : decode cX1_isAnswer 89 = .ok (.iconst 4, 1) := by decide +kernel
theorem dX1_isAnswer_90 : decode cX1_isAnswer 90 = .ok (.if_icmp .ge 39, 3) := by decide +kernel
theorem dX1_isAnswer_93 : decode cX1_isAnswer 93 = .ok (.iload_n 3, 1) := by decide +kernel
theorem dX1_isAnswer_94 : decode cX1_isAnswer 94 = .ok (.ifCond .eq 27, 3) := by decide +kernel
theorem dX1_isAnswer_97 : decode cX1_isAnswer 97 = .ok (.iload_n 2, 1) := by decide +kernel
theorem dX1_isAnswer_98 : decode cX1_isAnswer 98 = .ok (.iload 4, 2) := by decide +kernel
theorem dX1_isAnswer_100 : decode cX1_isAnswer 100 = .ok (.ishr, 1) := by decide +kernel
theorem dX1_isAnswer_101 : decode cX1_isAnswer 101 = .ok (.iconst 1, 1) := by decide +kernel
theorem dX1_isAnswer_102 : decode cX1_isAnswer 102 = .ok (.iand, 1) := by decide +kernel
theorem dX1_isAnswer_103 : decode cX1_isAnswer 103 = .ok (.iconst 1, 1) := by decide +kernel
theorem dX1_isAnswer_104 : decode cX1_isAnswer 104 = .ok (.if_icmp .eq 13, 3) := by decide +kernel
theorem dX1_isAnswer_107 : decode cX1_isAnswer 107 = .ok (.aload_n 0, 1) := by decide +kernel
theorem dX1_isAnswer_108 : decode cX1_isAnswer 108 = .ok (.iload_n 1, 1) := by decide +kernel
theorem dX1_isAnswer_109 : decode cX1_isAnswer 109 = .ok (.iload 4, 2) := by decide +kernel
theorem dX1_isAnswer_111 : decode cX1_isAnswer 111 = .ok (.invokevirtual 44, 3) := by decide +kernel
theorem dX1_isAnswer_114 : decode cX1_isAnswer 114 = .ok (.ifCond .ne 7, 3) := by decide +kernel
theorem dX1_isAnswer_117 : decode cX1_isAnswer 117 = .ok (.iconst 1, 1) := by decide +kernel
theorem dX1_isAnswer_118 : decode cX1_isAnswer 118 = .ok (.goto 4, 3) := by decide +kernel
theorem dX1_isAnswer_121 : decode cX1_isAnswer 121 = .ok (.iconst 0, 1) := by decide +kernel
theorem dX1_isAnswer_122 : decode cX1_isAnswer 122 = .ok (.istore_n 3, 1) := by decide +kernel
theorem dX1_isAnswer_123 : decode cX1_isAnswer 123 = .ok (.iinc 4 1, 3) := by decide +kernel
theorem dX1_isAnswer_126 : decode cX1_isAnswer 126 = .ok (.goto (-39), 3) := by decide +kernel
theorem dX1_isAnswer_129 : decode cX1_isAnswer 129 = .ok (.iload_n 3, 1) := by decide +kernel
theorem dX1_isAnswer_130 : decode cX1_isAnswer 130 = .ok (.ireturn, 1) := by decide +kernel
end
section
set_option maxRecDepth 100000
abbrev cX1_of : ByteArray := prog_3_method_10_code
def yX1_of : MethodName := ⟨RX1, "of", "(II)I"⟩
theorem dX1_of_0 : decode cX1_of 0 = .ok (.iload_n 1, 1) := by decide +kernel
theorem dX1_of_1 : decode cX1_of 1 = .ok (.bipush 9, 2) := by decide +kernel
theorem dX1_of_3 : decode cX1_of 3 = .ok (.iconst 3, 1) := by decide +kernel
theorem dX1_of_4 : decode cX1_of 4 = .ok (.iload_n 2, 1) := by decide +kernel
theorem dX1_of_5 : decode cX1_of 5 = .ok (.imul, 1) := by decide +kernel
theorem dX1_of_6 : decode cX1_of 6 = .ok (.isub, 1) := by decide +kernel
theorem dX1_of_7 : decode cX1_of 7 = .ok (.ishr, 1) := by decide +kernel
theorem dX1_of_8 : decode cX1_of 8 = .ok (.bipush 7, 2) := by decide +kernel
theorem dX1_of_10 : decode cX1_of 10 = .ok (.iand, 1) := by decide +kernel
theorem dX1_of_11 : decode cX1_of 11 = .ok (.ireturn, 1) := by decide +kernel
abbrev cX1_answer : ByteArray := prog_3_method_13_code
def yX1_answer : MethodName := ⟨RX1, "answer", "(I)I"⟩
theorem dX1_answer_0 : decode cX1_answer 0 = .ok (.iconst 0, 1) := by decide +kernel
theorem dX1_answer_1 : decode cX1_answer 1 = .ok (.istore_n 2, 1) := by decide +kernel
theorem dX1_answer_2 : decode cX1_answer 2 = .ok (.iconst 0, 1) := by decide +kernel
theorem dX1_answer_3 : decode cX1_answer 3 = .ok (.istore_n 3, 1) := by decide +kernel
theorem dX1_answer_4 : decode cX1_answer 4 = .ok (.iload_n 3, 1) := by decide +kernel
theorem dX1_answer_5 : decode cX1_answer 5 = .ok (.sipush 4096, 3) := by decide +kernel
theorem dX1_answer_8 : decode cX1_answer 8 = .ok (.if_icmp .ge 27, 3) := by decide +kernel
theorem dX1_answer_11 : decode cX1_answer 11 = .ok (.aload_n 0, 1) := by decide +kernel
theorem dX1_answer_12 : decode cX1_answer 12 = .ok (.iload_n 3, 1) := by decide +kernel
theorem dX1_answer_13 : decode cX1_answer 13 = .ok (.invokevirtual 48, 3) := by decide +kernel
theorem dX1_answer_16 : decode cX1_answer 16 = .ok (.ifCond .eq 13, 3) := by decide +kernel
theorem dX1_answer_19 : decode cX1_answer 19 = .ok (.iload_n 2, 1) := by decide +kernel
theorem dX1_answer_20 : decode cX1_answer 20 = .ok (.iload_n 1, 1) := by decide +kernel
theorem dX1_answer_21 : decode cX1_answer 21 = .ok (.if_icmp .ne 5, 3) := by decide +kernel
theorem dX1_answer_24 : decode cX1_answer 24 = .ok (.iload_n 3, 1) := by decide +kernel
theorem dX1_answer_25 : decode cX1_answer 25 = .ok (.ireturn, 1) := by decide +kernel
theorem dX1_answer_26 : decode cX1_answer 26 = .ok (.iinc 2 1, 3) := by decide +kernel
theorem dX1_answer_29 : decode cX1_answer 29 = .ok (.iinc 3 1, 3) := by decide +kernel
theorem dX1_answer_32 : decode cX1_answer 32 = .ok (.goto (-28), 3) := by decide +kernel
theorem dX1_answer_35 : decode cX1_answer 35 = .ok (.iconst (-1), 1) := by decide +kernel
theorem dX1_answer_36 : decode cX1_answer 36 = .ok (.ireturn, 1) := by decide +kernel
abbrev cX1_seek : ByteArray := prog_3_method_14_code
def yX1_seek : MethodName := ⟨RX1, "seek", "(I)I"⟩
theorem dX1_seek_0 : decode cX1_seek 0 = .ok (.iconst 0, 1) := by decide +kernel
theorem dX1_seek_1 : decode cX1_seek 1 = .ok (.istore_n 2, 1) := by decide +kernel
theorem dX1_seek_2 : decode cX1_seek 2 = .ok (.iload_n 2, 1) := by decide +kernel
theorem dX1_seek_3 : decode cX1_seek 3 = .ok (.sipush 4096, 3) := by decide +kernel
theorem dX1_seek_6 : decode cX1_seek 6 = .ok (.if_icmp .ge 24, 3) := by decide +kernel
theorem dX1_seek_9 : decode cX1_seek 9 = .ok (.iload_n 2, 1) := by decide +kernel
theorem dX1_seek_10 : decode cX1_seek 10 = .ok (.iload_n 1, 1) := by decide +kernel
theorem dX1_seek_11 : decode cX1_seek 11 = .ok (.if_icmp .lt 13, 3) := by decide +kernel
theorem dX1_seek_14 : decode cX1_seek 14 = .ok (.aload_n 0, 1) := by decide +kernel
theorem dX1_seek_15 : decode cX1_seek 15 = .ok (.iload_n 2, 1) := by decide +kernel
theorem dX1_seek_16 : decode cX1_seek 16 = .ok (.invokevirtual 48, 3) := by decide +kernel
theorem dX1_seek_19 : decode cX1_seek 19 = .ok (.ifCond .eq 5, 3) := by decide +kernel
theorem dX1_seek_22 : decode cX1_seek 22 = .ok (.iload_n 2, 1) := by decide +kernel
theorem dX1_seek_23 : decode cX1_seek 23 = .ok (.ireturn, 1) := by decide +kernel
theorem dX1_seek_24 : decode cX1_seek 24 = .ok (.iinc 2 1, 3) := by decide +kernel
theorem dX1_seek_27 : decode cX1_seek 27 = .ok (.goto (-25), 3) := by decide +kernel
theorem dX1_seek_30 : decode cX1_seek 30 = .ok (.iconst (-1), 1) := by decide +kernel
theorem dX1_seek_31 : decode cX1_seek 31 = .ok (.ireturn, 1) := by decide +kernel
abbrev cX1_values : ByteArray := prog_3_method_15_code
def yX1_values : MethodName := ⟨RX1, "values", "(I)I"⟩
theorem dX1_values_0 : decode cX1_values 0 = .ok (.iconst 0, 1) := by decide +kernel
theorem dX1_values_1 : decode cX1_values 1 = .ok (.istore_n 2, 1) := by decide +kernel
theorem dX1_values_2 : decode cX1_values 2 = .ok (.iconst 0, 1) := by decide +kernel
theorem dX1_values_3 : decode cX1_values 3 = .ok (.istore_n 3, 1) := by decide +kernel
theorem dX1_values_4 : decode cX1_values 4 = .ok (.iload_n 3, 1) := by decide +kernel
theorem dX1_values_5 : decode cX1_values 5 = .ok (.sipush 4096, 3) := by decide +kernel
theorem dX1_values_8 : decode cX1_values 8 = .ok (.if_icmp .ge 40, 3) := by decide +kernel
theorem dX1_values_11 : decode cX1_values 11 = .ok (.aload_n 0, 1) := by decide +kernel
theorem dX1_values_12 : decode cX1_values 12 = .ok (.iload_n 1, 1) := by decide +kernel
theorem dX1_values_13 : decode cX1_values 13 = .ok (.invokevirtual 37, 3) := by decide +kernel
theorem dX1_values_16 : decode cX1_values 16 = .ok (.ifCond .eq 32, 3) := by decide +kernel
theorem dX1_values_19 : decode cX1_values 19 = .ok (.aload_n 0, 1) := by decide +kernel
theorem dX1_values_20 : decode cX1_values 20 = .ok (.iload_n 3, 1) := by decide +kernel
theorem dX1_values_21 : decode cX1_values 21 = .ok (.invokevirtual 48, 3) := by decide +kernel
theorem dX1_values_24 : decode cX1_values 24 = .ok (.ifCond .eq 16, 3) := by decide +kernel
theorem dX1_values_27 : decode cX1_values 27 = .ok (.iload_n 2, 1) := by decide +kernel
theorem dX1_values_28 : decode cX1_values 28 = .ok (.iconst 1, 1) := by decide +kernel
theorem dX1_values_29 : decode cX1_values 29 = .ok (.aload_n 0, 1) := by decide +kernel
theorem dX1_values_30 : decode cX1_values 30 = .ok (.iload_n 3, 1) := by decide +kernel
theorem dX1_values_31 : decode cX1_values 31 = .ok (.iload_n 1, 1) := by decide +kernel
theorem dX1_values_32 : decode cX1_values 32 = .ok (.invokevirtual 44, 3) := by decide +kernel
theorem dX1_values_35 : decode cX1_values 35 = .ok (.ishl, 1) := by decide +kernel
theorem dX1_values_36 : decode cX1_values 36 = .ok (.ior, 1) := by decide +kernel
theorem dX1_values_37 : decode cX1_values 37 = .ok (.goto 4, 3) := by decide +kernel
theorem dX1_values_40 : decode cX1_values 40 = .ok (.iload_n 2, 1) := by decide +kernel
theorem dX1_values_41 : decode cX1_values 41 = .ok (.istore_n 2, 1) := by decide +kernel
theorem dX1_values_42 : decode cX1_values 42 = .ok (.iinc 3 1, 3) := by decide +kernel
theorem dX1_values_45 : decode cX1_values 45 = .ok (.goto (-41), 3) := by decide +kernel
theorem dX1_values_48 : decode cX1_values 48 = .ok (.iload_n 2, 1) := by decide +kernel
theorem dX1_values_49 : decode cX1_values 49 = .ok (.ireturn, 1) := by decide +kernel
abbrev cX1_countWith : ByteArray := prog_3_method_16_code
def yX1_countWith : MethodName := ⟨RX1, "countWith", "(II)I"⟩
theorem dX1_countWith_0 : decode cX1_countWith 0 = .ok (.iconst 0, 1) := by decide +kernel
theorem dX1_countWith_1 : decode cX1_countWith 1 = .ok (.istore_n 3, 1) := by decide +kernel
theorem dX1_countWith_2 : decode cX1_countWith 2 = .ok (.iconst 0, 1) := by decide +kernel
theorem dX1_countWith_3 : decode cX1_countWith 3 = .ok (.istore 4, 2) := by decide +kernel
theorem dX1_countWith_5 : decode cX1_countWith 5 = .ok (.iload 4, 2) := by decide +kernel
theorem dX1_countWith_7 : decode cX1_countWith 7 = .ok (.sipush 4096, 3) := by decide +kernel
theorem dX1_countWith_10 : decode cX1_countWith 10 = .ok (.if_icmp .ge 45, 3) := by decide +kernel
theorem dX1_countWith_13 : decode cX1_countWith 13 = .ok (.aload_n 0, 1) := by decide +kernel
theorem dX1_countWith_14 : decode cX1_countWith 14 = .ok (.iload_n 1, 1) := by decide +kernel
theorem dX1_countWith_15 : decode cX1_countWith 15 = .ok (.invokevirtual 37, 3) := by decide +kernel
theorem dX1_countWith_18 : decode cX1_countWith 18 = .ok (.ifCond .eq 37, 3) := by decide +kernel
theorem dX1_countWith_21 : decode cX1_countWith 21 = .ok (.aload_n 0, 1) := by decide +kernel
theorem dX1_countWith_22 : decode cX1_countWith 22 = .ok (.iload 4, 2) := by decide +kernel
theorem dX1_countWith_24 : decode cX1_countWith 24 = .ok (.iload_n 1, 1) := by decide +kernel
theorem dX1_countWith_25 : decode cX1_countWith 25 = .ok (.invokevirtual 44, 3) := by decide +kernel
theorem dX1_countWith_28 : decode cX1_countWith 28 = .ok (.iload_n 2, 1) := by decide +kernel
theorem dX1_countWith_29 : decode cX1_countWith 29 = .ok (.if_icmp .ne 18, 3) := by decide +kernel
theorem dX1_countWith_32 : decode cX1_countWith 32 = .ok (.aload_n 0, 1) := by decide +kernel
theorem dX1_countWith_33 : decode cX1_countWith 33 = .ok (.iload 4, 2) := by decide +kernel
theorem dX1_countWith_35 : decode cX1_countWith 35 = .ok (.invokevirtual 48, 3) := by decide +kernel
theorem dX1_countWith_38 : decode cX1_countWith 38 = .ok (.ifCond .eq 9, 3) := by decide +kernel
theorem dX1_countWith_41 : decode cX1_countWith 41 = .ok (.iload_n 3, 1) := by decide +kernel
theorem dX1_countWith_42 : decode cX1_countWith 42 = .ok (.iconst 1, 1) := by decide +kernel
theorem dX1_countWith_43 : decode cX1_countWith 43 = .ok (.iadd, 1) := by decide +kernel
theorem dX1_countWith_44 : decode cX1_countWith 44 = .ok (.goto 4, 3) := by decide +kernel
theorem dX1_countWith_47 : decode cX1_countWith 47 = .ok (.iload_n 3, 1) := by decide +kernel
theorem dX1_countWith_48 : decode cX1_countWith 48 = .ok (.istore_n 3, 1) := by decide +kernel
theorem dX1_countWith_49 : decode cX1_countWith 49 = .ok (.iinc 4 1, 3) := by decide +kernel
theorem dX1_countWith_52 : decode cX1_countWith 52 = .ok (.goto (-47), 3) := by decide +kernel
theorem dX1_countWith_55 : decode cX1_countWith 55 = .ok (.iload_n 3, 1) := by decide +kernel
theorem dX1_countWith_56 : decode cX1_countWith 56 = .ok (.ireturn, 1) := by decide +kernel
abbrev cX1_holds : ByteArray := prog_3_method_17_code
def yX1_holds : MethodName := ⟨RX1, "holds", "(I)Z"⟩
theorem dX1_holds_0 : decode cX1_holds 0 = .ok (.iload_n 1, 1) := by decide +kernel
theorem dX1_holds_1 : decode cX1_holds 1 = .ok (.ifCond .lt 22, 3) := by decide +kernel
theorem dX1_holds_4 : decode cX1_holds 4 = .ok (.iload_n 1, 1) := by decide +kernel
theorem dX1_holds_5 : decode cX1_holds 5 = .ok (.sipush 4096, 3) := by decide +kernel
theorem dX1_holds_8 : decode cX1_holds 8 = .ok (.if_icmp .ge 15, 3) := by decide +kernel
theorem dX1_holds_11 : decode cX1_holds 11 = .ok (.aload_n 0, 1) := by decide +kernel
theorem dX1_holds_12 : decode cX1_holds 12 = .ok (.iload_n 1, 1) := by decide +kernel
theorem dX1_holds_13 : decode cX1_holds 13 = .ok (.invokevirtual 48, 3) := by decide +kernel
theorem dX1_holds_16 : decode cX1_holds 16 = .ok (.ifCond .eq 7, 3) := by decide +kernel
theorem dX1_holds_19 : decode cX1_holds 19 = .ok (.iconst 1, 1) := by decide +kernel
theorem dX1_holds_20 : decode cX1_holds 20 = .ok (.goto 4, 3) := by decide +kernel
theorem dX1_holds_23 : decode cX1_holds 23 = .ok (.iconst 0, 1) := by decide +kernel
theorem dX1_holds_24 : decode cX1_holds 24 = .ok (.ireturn, 1) := by decide +kernel
abbrev cX1_pairs : ByteArray := prog_3_method_18_code
def yX1_pairs : MethodName := ⟨RX1, "pairs", "(II)I"⟩
theorem dX1_pairs_0 : decode cX1_pairs 0 = .ok (.iconst 0, 1) := by decide +kernel
theorem dX1_pairs_1 : decode cX1_pairs 1 = .ok (.istore_n 3, 1) := by decide +kernel
theorem dX1_pairs_2 : decode cX1_pairs 2 = .ok (.iload_n 3, 1) := by decide +kernel
theorem dX1_pairs_3 : decode cX1_pairs 3 = .ok (.bipush 64, 2) := by decide +kernel
theorem dX1_pairs_5 : decode cX1_pairs 5 = .ok (.if_icmp .ge 16, 3) := by decide +kernel
theorem dX1_pairs_8 : decode cX1_pairs 8 = .ok (.aload_n 0, 1) := by decide +kernel
theorem dX1_pairs_9 : decode cX1_pairs 9 = .ok (.getfield 22, 3) := by decide +kernel
theorem dX1_pairs_12 : decode cX1_pairs 12 = .ok (.iload_n 3, 1) := by decide +kernel
theorem dX1_pairs_13 : decode cX1_pairs 13 = .ok (.iconst 0, 1) := by decide +kernel
theorem dX1_pairs_14 : decode cX1_pairs 14 = .ok (.bastore, 1) := by decide +kernel
theorem dX1_pairs_15 : decode cX1_pairs 15 = .ok (.iinc 3 1, 3) := by decide +kernel
theorem dX1_pairs_18 : decode cX1_pairs 18 = .ok (.goto (-16), 3) := by decide +kernel
theorem dX1_pairs_21 : decode cX1_pairs 21 = .ok (.iconst 0, 1) := by decide +kernel
theorem dX1_pairs_22 : decode cX1_pairs 22 = .ok (.istore_n 3, 1) := by decide +kernel
theorem dX1_pairs_23 : decode cX1_pairs 23 = .ok (.iconst 0, 1) := by decide +kernel
theorem dX1_pairs_24 : decode cX1_pairs 24 = .ok (.istore 4, 2) := by decide +kernel
theorem dX1_pairs_26 : decode cX1_pairs 26 = .ok (.iload 4, 2) := by decide +kernel
theorem dX1_pairs_28 : decode cX1_pairs 28 = .ok (.sipush 4096, 3) := by decide +kernel
theorem dX1_pairs_31 : decode cX1_pairs 31 = .ok (.if_icmp .ge 75, 3) := by decide +kernel
theorem dX1_pairs_34 : decode cX1_pairs 34 = .ok (.aload_n 0, 1) := by decide +kernel
theorem dX1_pairs_35 : decode cX1_pairs 35 = .ok (.iload_n 1, 1) := by decide +kernel
theorem dX1_pairs_36 : decode cX1_pairs 36 = .ok (.invokevirtual 37, 3) := by decide +kernel
theorem dX1_pairs_39 : decode cX1_pairs 39 = .ok (.ifCond .eq 67, 3) := by decide +kernel
theorem dX1_pairs_42 : decode cX1_pairs 42 = .ok (.aload_n 0, 1) := by decide +kernel
theorem dX1_pairs_43 : decode cX1_pairs 43 = .ok (.iload_n 2, 1) := by decide +kernel
theorem dX1_pairs_44 : decode cX1_pairs 44 = .ok (.invokevirtual 37, 3) := by decide +kernel
theorem dX1_pairs_47 : decode cX1_pairs 47 = .ok (.ifCond .eq 59, 3) := by decide +kernel
theorem dX1_pairs_50 : decode cX1_pairs 50 = .ok (.bipush 8, 2) := by decide +kernel
theorem dX1_pairs_52 : decode cX1_pairs 52 = .ok (.aload_n 0, 1) := by decide +kernel
theorem dX1_pairs_53 : decode cX1_pairs 53 = .ok (.iload 4, 2) := by decide +kernel
theorem dX1_pairs_55 : decode cX1_pairs 55 = .ok (.iload_n 1, 1) := by decide +kernel
theorem dX1_pairs_56 : decode cX1_pairs 56 = .ok (.invokevirtual 44, 3) := by decide +kernel
theorem dX1_pairs_59 : decode cX1_pairs 59 = .ok (.imul, 1) := by decide +kernel
theorem dX1_pairs_60 : decode cX1_pairs 60 = .ok (.aload_n 0, 1) := by decide +kernel
theorem dX1_pairs_61 : decode cX1_pairs 61 = .ok (.iload 4, 2) := by decide +kernel
theorem dX1_pairs_63 : decode cX1_pairs 63 = .ok (.iload_n 2, 1) := by decide +kernel
theorem dX1_pairs_64 : decode cX1_pairs 64 = .ok (.invokevirtual 44, 3) := by decide +kernel
theorem dX1_pairs_67 : decode cX1_pairs 67 = .ok (.iadd, 1) := by decide +kernel
theorem dX1_pairs_68 : decode cX1_pairs 68 = .ok (.istore 5, 2) := by decide +kernel
theorem dX1_pairs_70 : decode cX1_pairs 70 = .ok (.aload_n 0, 1) := by decide +kernel
theorem dX1_pairs_71 : decode cX1_pairs 71 = .ok (.iload 4, 2) := by decide +kernel
theorem dX1_pairs_73 : decode cX1_pairs 73 = .ok (.invokevirtual 48, 3) := by decide +kernel
theorem dX1_pairs_76 : decode cX1_pairs 76 = .ok (.ifCond .eq 24, 3) := by decide +kernel
theorem dX1_pairs_79 : decode cX1_pairs 79 = .ok (.aload_n 0, 1) := by decide +kernel
theorem dX1_pairs_80 : decode cX1_pairs 80 = .ok (.getfield 22, 3) := by decide +kernel
theorem dX1_pairs_83 : decode cX1_pairs 83 = .ok (.iload 5, 2) := by decide +kernel
theorem dX1_pairs_85 : decode cX1_pairs 85 = .ok (.baload, 1) := by decide +kernel
theorem dX1_pairs_86 : decode cX1_pairs 86 = .ok (.ifCond .ne 14, 3) := by decide +kernel
theorem dX1_pairs_89 : decode cX1_pairs 89 = .ok (.aload_n 0, 1) := by decide +kernel
theorem dX1_pairs_90 : decode cX1_pairs 90 = .ok (.getfield 22, 3) := by decide +kernel
theorem dX1_pairs_93 : decode cX1_pairs 93 = .ok (.iload 5, 2) := by decide +kernel
theorem dX1_pairs_95 : decode cX1_pairs 95 = .ok (.iconst 1, 1) := by decide +kernel
theorem dX1_pairs_96 : decode cX1_pairs 96 = .ok (.bastore, 1) := by decide +kernel
theorem dX1_pairs_97 : decode cX1_pairs 97 = .ok (.iinc 3 1, 3) := by decide +kernel
theorem dX1_pairs_100 : decode cX1_pairs 100 = .ok (.iinc 4 1, 3) := by decide +kernel
theorem dX1_pairs_103 : decode cX1_pairs 103 = .ok (.goto (-77), 3) := by decide +kernel
theorem dX1_pairs_106 : decode cX1_pairs 106 = .ok (.iload_n 3, 1) := by decide +kernel
theorem dX1_pairs_107 : decode cX1_pairs 107 = .ok (.ireturn, 1) := by decide +kernel
abbrev cX1_loss : ByteArray := prog_3_method_19_code
def yX1_loss : MethodName := ⟨RX1, "loss", "(III)I"⟩
theorem dX1_loss_0 : decode cX1_loss 0 = .ok (.aload_n 0, 1) := by decide +kernel
theorem dX1_loss_1 : decode cX1_loss 1 = .ok (.iload_n 1, 1) := by decide +kernel
theorem dX1_loss_2 : decode cX1_loss 2 = .ok (.invokevirtual 26, 3) := by decide +kernel
theorem dX1_loss_5 : decode cX1_loss 5 = .ok (.ifCond .eq 19, 3) := by decide +kernel
theorem dX1_loss_8 : decode cX1_loss 8 = .ok (.aload_n 0, 1) := by decide +kernel
theorem dX1_loss_9 : decode cX1_loss 9 = .ok (.iload_n 2, 1) := by decide +kernel
theorem dX1_loss_10 : decode cX1_loss 10 = .ok (.invokevirtual 30, 3) := by decide +kernel
theorem dX1_loss_13 : decode cX1_loss 13 = .ok (.ifCond .eq 11, 3) := by decide +kernel
theorem dX1_loss_16 : decode cX1_loss 16 = .ok (.aload_n 0, 1) := by decide +kernel
theorem dX1_loss_17 : decode cX1_loss 17 = .ok (.iload_n 3, 1) := by decide +kernel
theorem dX1_loss_18 : decode cX1_loss 18 = .ok (.invokevirtual 30, 3) := by decide +kernel
theorem dX1_loss_21 : decode cX1_loss 21 = .ok (.ifCond .ne 5, 3) := by decide +kernel
theorem dX1_loss_24 : decode cX1_loss 24 = .ok (.iconst (-1), 1) := by decide +kernel
theorem dX1_loss_25 : decode cX1_loss 25 = .ok (.ireturn, 1) := by decide +kernel
theorem dX1_loss_26 : decode cX1_loss 26 = .ok (.aload_n 0, 1) := by decide +kernel
theorem dX1_loss_27 : decode cX1_loss 27 = .ok (.iload_n 1, 1) := by decide +kernel
theorem dX1_loss_28 : decode cX1_loss 28 = .ok (.iload_n 2, 1) := by decide +kernel
theorem dX1_loss_29 : decode cX1_loss 29 = .ok (.iload_n 3, 1) := by decide +kernel
theorem dX1_loss_30 : decode cX1_loss 30 = .ok (.invokevirtual 33, 3) := by decide +kernel
theorem dX1_loss_33 : decode cX1_loss 33 = .ok (.ifCond .ne 5, 3) := by decide +kernel
theorem dX1_loss_36 : decode cX1_loss 36 = .ok (.iconst 0, 1) := by decide +kernel
theorem dX1_loss_37 : decode cX1_loss 37 = .ok (.ireturn, 1) := by decide +kernel
theorem dX1_loss_38 : decode cX1_loss 38 = .ok (.aload_n 0, 1) := by decide +kernel
theorem dX1_loss_39 : decode cX1_loss 39 = .ok (.invokevirtual 51, 3) := by decide +kernel
theorem dX1_loss_42 : decode cX1_loss 42 = .ok (.istore 4, 2) := by decide +kernel
theorem dX1_loss_44 : decode cX1_loss 44 = .ok (.aload_n 0, 1) := by decide +kernel
theorem dX1_loss_45 : decode cX1_loss 45 = .ok (.iload_n 1, 1) := by decide +kernel
theorem dX1_loss_46 : decode cX1_loss 46 = .ok (.iload_n 2, 1) := by decide +kernel
theorem dX1_loss_47 : decode cX1_loss 47 = .ok (.iload_n 3, 1) := by decide +kernel
theorem dX1_loss_48 : decode cX1_loss 48 = .ok (.iconst 0, 1) := by decide +kernel
theorem dX1_loss_49 : decode cX1_loss 49 = .ok (.invokevirtual 55, 3) := by decide +kernel
theorem dX1_loss_52 : decode cX1_loss 52 = .ok (.pop, 1) := by decide +kernel
theorem dX1_loss_53 : decode cX1_loss 53 = .ok (.aload_n 0, 1) := by decide +kernel
theorem dX1_loss_54 : decode cX1_loss 54 = .ok (.invokevirtual 51, 3) := by decide +kernel
theorem dX1_loss_57 : decode cX1_loss 57 = .ok (.istore 5, 2) := by decide +kernel
theorem dX1_loss_59 : decode cX1_loss 59 = .ok (.aload_n 0, 1) := by decide +kernel
theorem dX1_loss_60 : decode cX1_loss 60 = .ok (.iload_n 1, 1) := by decide +kernel
theorem dX1_loss_61 : decode cX1_loss 61 = .ok (.iload_n 2, 1) := by decide +kernel
theorem dX1_loss_62 : decode cX1_loss 62 = .ok (.iload_n 3, 1) := by decide +kernel
theorem dX1_loss_63 : decode cX1_loss 63 = .ok (.iconst 1, 1) := by decide +kernel
theorem dX1_loss_64 : decode cX1_loss 64 = .ok (.invokevirtual 55, 3) := by decide +kernel
theorem dX1_loss_67 : decode cX1_loss 67 = .ok (.pop, 1) := by decide +kernel
theorem dX1_loss_68 : decode cX1_loss 68 = .ok (.iload 4, 2) := by decide +kernel
theorem dX1_loss_70 : decode cX1_loss 70 = .ok (.iload 5, 2) := by decide +kernel
theorem dX1_loss_72 : decode cX1_loss 72 = .ok (.isub, 1) := by decide +kernel
theorem dX1_loss_73 : decode cX1_loss 73 = .ok (.ireturn, 1) := by decide +kernel
abbrev cX1_partners : ByteArray := prog_3_method_20_code
def yX1_partners : MethodName := ⟨RX1, "partners", "(III)I"⟩
theorem dX1_partners_0 : decode cX1_partners 0 = .ok (.iconst 0, 1) := by decide +kernel
theorem dX1_partners_1 : decode cX1_partners 1 = .ok (.istore 4, 2) := by decide +kernel
theorem dX1_partners_3 : decode cX1_partners 3 = .ok (.iconst 0, 1) := by decide +kernel
theorem dX1_partners_4 : decode cX1_partners 4 = .ok (.istore 5, 2) := by decide +kernel
theorem dX1_partners_6 : decode cX1_partners 6 = .ok (.iload 5, 2) := by decide +kernel
theorem dX1_partners_8 : decode cX1_partners 8 = .ok (.bipush 8, 2) := by decide +kernel
theorem dX1_partners_10 : decode cX1_partners 10 = .ok (.if_icmp .ge 82, 3) := by decide +kernel
theorem dX1_partners_13 : decode cX1_partners 13 = .ok (.aload_n 0, 1) := by decide +kernel
theorem dX1_partners_14 : decode cX1_partners 14 = .ok (.iload_n 1, 1) := by decide +kernel
theorem dX1_partners_15 : decode cX1_partners 15 = .ok (.invokevirtual 26, 3) := by decide +kernel
theorem dX1_partners_18 : decode cX1_partners 18 = .ok (.ifCond .eq 74, 3) := by decide +kernel
theorem dX1_partners_21 : decode cX1_partners 21 = .ok (.aload_n 0, 1) := by decide +kernel
theorem dX1_partners_22 : decode cX1_partners 22 = .ok (.iload_n 2, 1) := by decide +kernel
theorem dX1_partners_23 : decode cX1_partners 23 = .ok (.invokevirtual 30, 3) := by decide +kernel
theorem dX1_partners_26 : decode cX1_partners 26 = .ok (.ifCond .eq 66, 3) := by decide +kernel
theorem dX1_partners_29 : decode cX1_partners 29 = .ok (.iload_n 3, 1) := by decide +kernel
theorem dX1_partners_30 : decode cX1_partners 30 = .ok (.ifCond .ne 14, 3) := by decide +kernel
theorem dX1_partners_33 : decode cX1_partners 33 = .ok (.aload_n 0, 1) := by decide +kernel
theorem dX1_partners_34 : decode cX1_partners 34 = .ok (.iload_n 1, 1) := by decide +kernel
theorem dX1_partners_35 : decode cX1_partners 35 = .ok (.iload_n 2, 1) := by decide +kernel
theorem dX1_partners_36 : decode cX1_partners 36 = .ok (.iload 5, 2) := by decide +kernel
theorem dX1_partners_38 : decode cX1_partners 38 = .ok (.invokevirtual 33, 3) := by decide +kernel
theorem dX1_partners_41 : decode cX1_partners 41 = .ok (.ifCond .ne 19, 3) := by decide +kernel
theorem dX1_partners_44 : decode cX1_partners 44 = .ok (.iload_n 3, 1) := by decide +kernel
theorem dX1_partners_45 : decode cX1_partners 45 = .ok (.iconst 1, 1) := by decide +kernel
theorem dX1_partners_46 : decode cX1_partners 46 = .ok (.if_icmp .ne 18, 3) := by decide +kernel
theorem dX1_partners_49 : decode cX1_partners 49 = .ok (.aload_n 0, 1) := by decide +kernel
theorem dX1_partners_50 : decode cX1_partners 50 = .ok (.iload_n 1, 1) := by decide +kernel
theorem dX1_partners_51 : decode cX1_partners 51 = .ok (.iload 5, 2) := by decide +kernel
theorem dX1_partners_53 : decode cX1_partners 53 = .ok (.iload_n 2, 1) := by decide +kernel
theorem dX1_partners_54 : decode cX1_partners 54 = .ok (.invokevirtual 33, 3) := by decide +kernel
theorem dX1_partners_57 : decode cX1_partners 57 = .ok (.ifCond .eq 7, 3) := by decide +kernel
theorem dX1_partners_60 : decode cX1_partners 60 = .ok (.iconst 1, 1) := by decide +kernel
theorem dX1_partners_61 : decode cX1_partners 61 = .ok (.goto 4, 3) := by decide +kernel
theorem dX1_partners_64 : decode cX1_partners 64 = .ok (.iconst 0, 1) := by decide +kernel
theorem dX1_partners_65 : decode cX1_partners 65 = .ok (.istore 6, 2) := by decide +kernel
theorem dX1_partners_67 : decode cX1_partners 67 = .ok (.iload 6, 2) := by decide +kernel
theorem dX1_partners_69 : decode cX1_partners 69 = .ok (.ifCond .eq 13, 3) := by decide +kernel
theorem dX1_partners_72 : decode cX1_partners 72 = .ok (.iload 4, 2) := by decide +kernel
theorem dX1_partners_74 : decode cX1_partners 74 = .ok (.iconst 1, 1) := by decide +kernel
theorem dX1_partners_75 : decode cX1_partners 75 = .ok (.iload 5, 2) := by decide +kernel
theorem dX1_partners_77 : decode cX1_partners 77 = .ok (.ishl, 1) := by decide +kernel
theorem dX1_partners_78 : decode cX1_partners 78 = .ok (.ior, 1) := by decide +kernel
theorem dX1_partners_79 : decode cX1_partners 79 = .ok (.goto 5, 3) := by decide +kernel
theorem dX1_partners_82 : decode cX1_partners 82 = .ok (.iload 4, 2) := by decide +kernel
theorem dX1_partners_84 : decode cX1_partners 84 = .ok (.istore 4, 2) := by decide +kernel
theorem dX1_partners_86 : decode cX1_partners 86 = .ok (.iinc 5 1, 3) := by decide +kernel
theorem dX1_partners_89 : decode cX1_partners 89 = .ok (.goto (-83), 3) := by decide +kernel
theorem dX1_partners_92 : decode cX1_partners 92 = .ok (.iload 4, 2) := by decide +kernel
theorem dX1_partners_94 : decode cX1_partners 94 = .ok (.ireturn, 1) := by decide +kernel
end
section
set_option maxRecDepth 100000
abbrev cL_law : ByteArray := code
theorem dL_law_0 : decode cL_law 0 = .ok (.new 7, 3) := by decide +kernel
theorem dL_law_3 : decode cL_law 3 = .ok (.dup, 1) := by decide +kernel
theorem dL_law_4 : decode cL_law 4 = .ok (.invokespecial 9, 3) := by decide +kernel
theorem dL_law_7 : decode cL_law 7 = .ok (.astore_n 1, 1) := by decide +kernel
theorem dL_law_8 : decode cL_law 8 = .ok (.new 10, 3) := by decide +kernel
theorem dL_law_11 : decode cL_law 11 = .ok (.dup, 1) := by decide +kernel
theorem dL_law_12 : decode cL_law 12 = .ok (.invokespecial 12, 3) := by decide +kernel
theorem dL_law_15 : decode cL_law 15 = .ok (.astore_n 2, 1) := by decide +kernel
theorem dL_law_16 : decode cL_law 16 = .ok (.iconst 0, 1) := by decide +kernel
theorem dL_law_17 : decode cL_law 17 = .ok (.istore_n 3, 1) := by decide +kernel
theorem dL_law_18 : decode cL_law 18 = .ok (.iload_n 3, 1) := by decide +kernel
theorem dL_law_19 : decode cL_law 19 = .ok (.aload_n 0, 1) := by decide +kernel
theorem dL_law_20 : decode cL_law 20 = .ok (.arraylength, 1) := by decide +kernel
theorem dL_law_21 : decode cL_law 21 = .ok (.iconst 5, 1) := by decide +kernel
theorem dL_law_22 : decode cL_law 22 = .ok (.isub, 1) := by decide +kernel
theorem dL_law_23 : decode cL_law 23 = .ok (.if_icmp .gt 488, 3) := by decide +kernel
theorem dL_law_26 : decode cL_law 26 = .ok (.aload_n 0, 1) := by decide +kernel
theorem dL_law_27 : decode cL_law 27 = .ok (.iload_n 3, 1) := by decide +kernel
theorem dL_law_28 : decode cL_law 28 = .ok (.iaload, 1) := by decide +kernel
theorem dL_law_29 : decode cL_law 29 = .ok (.bipush 15, 2) := by decide +kernel
theorem dL_law_31 : decode cL_law 31 = .ok (.iand, 1) := by decide +kernel
theorem dL_law_32 : decode cL_law 32 = .ok (.tableswitch 473 0 12 #[68, 137, 160, 203, 216, 229, 252, 275, 298, 331, 354, 387, 430], 68) := by decide +kernel
theorem dL_law_100 : decode cL_law 100 = .ok (.aload_n 1, 1) := by decide +kernel
theorem dL_law_101 : decode cL_law 101 = .ok (.aload_n 0, 1) := by decide +kernel
theorem dL_law_102 : decode cL_law 102 = .ok (.iload_n 3, 1) := by decide +kernel
theorem dL_law_103 : decode cL_law 103 = .ok (.iconst 1, 1) := by decide +kernel
theorem dL_law_104 : decode cL_law 104 = .ok (.iadd, 1) := by decide +kernel
theorem dL_law_105 : decode cL_law 105 = .ok (.iaload, 1) := by decide +kernel
theorem dL_law_106 : decode cL_law 106 = .ok (.aload_n 0, 1) := by decide +kernel
theorem dL_law_107 : decode cL_law 107 = .ok (.iload_n 3, 1) := by decide +kernel
theorem dL_law_108 : decode cL_law 108 = .ok (.iconst 2, 1) := by decide +kernel
theorem dL_law_109 : decode cL_law 109 = .ok (.iadd, 1) := by decide +kernel
theorem dL_law_110 : decode cL_law 110 = .ok (.iaload, 1) := by decide +kernel
theorem dL_law_111 : decode cL_law 111 = .ok (.aload_n 0, 1) := by decide +kernel
theorem dL_law_112 : decode cL_law 112 = .ok (.iload_n 3, 1) := by decide +kernel
theorem dL_law_113 : decode cL_law 113 = .ok (.iconst 3, 1) := by decide +kernel
theorem dL_law_114 : decode cL_law 114 = .ok (.iadd, 1) := by decide +kernel
theorem dL_law_115 : decode cL_law 115 = .ok (.iaload, 1) := by decide +kernel
theorem dL_law_116 : decode cL_law 116 = .ok (.aload_n 0, 1) := by decide +kernel
theorem dL_law_117 : decode cL_law 117 = .ok (.iload_n 3, 1) := by decide +kernel
theorem dL_law_118 : decode cL_law 118 = .ok (.iconst 4, 1) := by decide +kernel
theorem dL_law_119 : decode cL_law 119 = .ok (.iadd, 1) := by decide +kernel
theorem dL_law_120 : decode cL_law 120 = .ok (.iaload, 1) := by decide +kernel
theorem dL_law_121 : decode cL_law 121 = .ok (.ifCond .eq 7, 3) := by decide +kernel
theorem dL_law_124 : decode cL_law 124 = .ok (.iconst 1, 1) := by decide +kernel
theorem dL_law_125 : decode cL_law 125 = .ok (.goto 4, 3) := by decide +kernel
theorem dL_law_128 : decode cL_law 128 = .ok (.iconst 0, 1) := by decide +kernel
theorem dL_law_129 : decode cL_law 129 = .ok (.invokevirtual 13, 3) := by decide +kernel
theorem dL_law_132 : decode cL_law 132 = .ok (.aload_n 2, 1) := by decide +kernel
theorem dL_law_133 : decode cL_law 133 = .ok (.aload_n 0, 1) := by decide +kernel
theorem dL_law_134 : decode cL_law 134 = .ok (.iload_n 3, 1) := by decide +kernel
theorem dL_law_135 : decode cL_law 135 = .ok (.iconst 1, 1) := by decide +kernel
theorem dL_law_136 : decode cL_law 136 = .ok (.iadd, 1) := by decide +kernel
theorem dL_law_137 : decode cL_law 137 = .ok (.iaload, 1) := by decide +kernel
theorem dL_law_138 : decode cL_law 138 = .ok (.aload_n 0, 1) := by decide +kernel
theorem dL_law_139 : decode cL_law 139 = .ok (.iload_n 3, 1) := by decide +kernel
theorem dL_law_140 : decode cL_law 140 = .ok (.iconst 2, 1) := by decide +kernel
theorem dL_law_141 : decode cL_law 141 = .ok (.iadd, 1) := by decide +kernel
theorem dL_law_142 : decode cL_law 142 = .ok (.iaload, 1) := by decide +kernel
theorem dL_law_143 : decode cL_law 143 = .ok (.aload_n 0, 1) := by decide +kernel
theorem dL_law_144 : decode cL_law 144 = .ok (.iload_n 3, 1) := by decide +kernel
theorem dL_law_145 : decode cL_law 145 = .ok (.iconst 3, 1) := by decide +kernel
theorem dL_law_146 : decode cL_law 146 = .ok (.iadd, 1) := by decide +kernel
theorem dL_law_147 : decode cL_law 147 = .ok (.iaload, 1) := by decide +kernel
theorem dL_law_148 : decode cL_law 148 = .ok (.aload_n 0, 1) := by decide +kernel
theorem dL_law_149 : decode cL_law 149 = .ok (.iload_n 3, 1) := by decide +kernel
theorem dL_law_150 : decode cL_law 150 = .ok (.iconst 4, 1) := by decide +kernel
theorem dL_law_151 : decode cL_law 151 = .ok (.iadd, 1) := by decide +kernel
theorem dL_law_152 : decode cL_law 152 = .ok (.iaload, 1) := by decide +kernel
theorem dL_law_153 : decode cL_law 153 = .ok (.ifCond .eq 7, 3) := by decide +kernel
theorem dL_law_156 : decode cL_law 156 = .ok (.iconst 1, 1) := by decide +kernel
theorem dL_law_157 : decode cL_law 157 = .ok (.goto 4, 3) := by decide +kernel
theorem dL_law_160 : decode cL_law 160 = .ok (.iconst 0, 1) := by decide +kernel
theorem dL_law_161 : decode cL_law 161 = .ok (.invokevirtual 17, 3) := by decide +kernel
theorem dL_law_164 : decode cL_law 164 = .ok (.if_icmp .eq 341, 3) := by decide +kernel
theorem dL_law_167 : decode cL_law 167 = .ok (.iconst 0, 1) := by decide +kernel
theorem dL_law_168 : decode cL_law 168 = .ok (.ireturn, 1) := by decide +kernel
theorem dL_law_169 : decode cL_law 169 = .ok (.aload_n 1, 1) := by decide +kernel
theorem dL_law_170 : decode cL_law 170 = .ok (.aload_n 0, 1) := by decide +kernel
theorem dL_law_171 : decode cL_law 171 = .ok (.iload_n 3, 1) := by decide +kernel
theorem dL_law_172 : decode cL_law 172 = .ok (.iconst 1, 1) := by decide +kernel
theorem dL_law_173 : decode cL_law 173 = .ok (.iadd, 1) := by decide +kernel
theorem dL_law_174 : decode cL_law 174 = .ok (.iaload, 1) := by decide +kernel
theorem dL_law_175 : decode cL_law 175 = .ok (.invokevirtual 18, 3) := by decide +kernel
theorem dL_law_178 : decode cL_law 178 = .ok (.aload_n 2, 1) := by decide +kernel
theorem dL_law_179 : decode cL_law 179 = .ok (.aload_n 0, 1) := by decide +kernel
theorem dL_law_180 : decode cL_law 180 = .ok (.iload_n 3, 1) := by decide +kernel
theorem dL_law_181 : decode cL_law 181 = .ok (.iconst 1, 1) := by decide +kernel
theorem dL_law_182 : decode cL_law 182 = .ok (.iadd, 1) := by decide +kernel
theorem dL_law_183 : decode cL_law 183 = .ok (.iaload, 1) := by decide +kernel
theorem dL_law_184 : decode cL_law 184 = .ok (.invokevirtual 22, 3) := by decide +kernel
theorem dL_law_187 : decode cL_law 187 = .ok (.if_icmp .eq 318, 3) := by decide +kernel
theorem dL_law_190 : decode cL_law 190 = .ok (.iconst 0, 1) := by decide +kernel
theorem dL_law_191 : decode cL_law 191 = .ok (.ireturn, 1) := by decide +kernel
theorem dL_law_192 : decode cL_law 192 = .ok (.aload_n 1, 1) := by decide +kernel
theorem dL_law_193 : decode cL_law 193 = .ok (.aload_n 0, 1) := by decide +kernel
theorem dL_law_194 : decode cL_law 194 = .ok (.iload_n 3, 1) := by decide +kernel
theorem dL_law_195 : decode cL_law 195 = .ok (.iconst 1, 1) := by decide +kernel
theorem dL_law_196 : decode cL_law 196 = .ok (.iadd, 1) := by decide +kernel
theorem dL_law_197 : decode cL_law 197 = .ok (.iaload, 1) := by decide +kernel
theorem dL_law_198 : decode cL_law 198 = .ok (.aload_n 0, 1) := by decide +kernel
theorem dL_law_199 : decode cL_law 199 = .ok (.iload_n 3, 1) := by decide +kernel
theorem dL_law_200 : decode cL_law 200 = .ok (.iconst 2, 1) := by decide +kernel
theorem dL_law_201 : decode cL_law 201 = .ok (.iadd, 1) := by decide +kernel
theorem dL_law_202 : decode cL_law 202 = .ok (.iaload, 1) := by decide +kernel
theorem dL_law_203 : decode cL_law 203 = .ok (.aload_n 0, 1) := by decide +kernel
theorem dL_law_204 : decode cL_law 204 = .ok (.iload_n 3, 1) := by decide +kernel
theorem dL_law_205 : decode cL_law 205 = .ok (.iconst 3, 1) := by decide +kernel
theorem dL_law_206 : decode cL_law 206 = .ok (.iadd, 1) := by decide +kernel
theorem dL_law_207 : decode cL_law 207 = .ok (.iaload, 1) := by decide +kernel
theorem dL_law_208 : decode cL_law 208 = .ok (.invokevirtual 23, 3) := by decide +kernel
theorem dL_law_211 : decode cL_law 211 = .ok (.aload_n 2, 1) := by decide +kernel
theorem dL_law_212 : decode cL_law 212 = .ok (.aload_n 0, 1) := by decide +kernel
theorem dL_law_213 : decode cL_law 213 = .ok (.iload_n 3, 1) := by decide +kernel
theorem dL_law_214 : decode cL_law 214 = .ok (.iconst 1, 1) := by decide +kernel
theorem dL_law_215 : decode cL_law 215 = .ok (.iadd, 1) := by decide +kernel
theorem dL_law_216 : decode cL_law 216 = .ok (.iaload, 1) := by decide +kernel
theorem dL_law_217 : decode cL_law 217 = .ok (.aload_n 0, 1) := by decide +kernel
theorem dL_law_218 : decode cL_law 218 = .ok (.iload_n 3, 1) := by decide +kernel
theorem dL_law_219 : decode cL_law 219 = .ok (.iconst 2, 1) := by decide +kernel
theorem dL_law_220 : decode cL_law 220 = .ok (.iadd, 1) := by decide +kernel
theorem dL_law_221 : decode cL_law 221 = .ok (.iaload, 1) := by decide +kernel
theorem dL_law_222 : decode cL_law 222 = .ok (.aload_n 0, 1) := by decide +kernel
theorem dL_law_223 : decode cL_law 223 = .ok (.iload_n 3, 1) := by decide +kernel
theorem dL_law_224 : decode cL_law 224 = .ok (.iconst 3, 1) := by decide +kernel
theorem dL_law_225 : decode cL_law 225 = .ok (.iadd, 1) := by decide +kernel
theorem dL_law_226 : decode cL_law 226 = .ok (.iaload, 1) := by decide +kernel
theorem dL_law_227 : decode cL_law 227 = .ok (.invokevirtual 27, 3) := by decide +kernel
theorem dL_law_230 : decode cL_law 230 = .ok (.if_icmp .eq 275, 3) := by decide +kernel
theorem dL_law_233 : decode cL_law 233 = .ok (.iconst 0, 1) := by decide +kernel
theorem dL_law_234 : decode cL_law 234 = .ok (.ireturn, 1) := by decide +kernel
theorem dL_law_235 : decode cL_law 235 = .ok (.aload_n 1, 1) := by decide +kernel
theorem dL_law_236 : decode cL_law 236 = .ok (.invokevirtual 28, 3) := by decide +kernel
theorem dL_law_239 : decode cL_law 239 = .ok (.aload_n 2, 1) := by decide +kernel
theorem dL_law_240 : decode cL_law 240 = .ok (.invokevirtual 32, 3) := by decide +kernel
theorem dL_law_243 : decode cL_law 243 = .ok (.if_icmp .eq 262, 3) := by decide +kernel
theorem dL_law_246 : decode cL_law 246 = .ok (.iconst 0, 1) := by decide +kernel
theorem dL_law_247 : decode cL_law 247 = .ok (.ireturn, 1) := by decide +kernel
theorem dL_law_248 : decode cL_law 248 = .ok (.aload_n 1, 1) := by decide +kernel
theorem dL_law_249 : decode cL_law 249 = .ok (.invokevirtual 33, 3) := by decide +kernel
theorem dL_law_252 : decode cL_law 252 = .ok (.aload_n 2, 1) := by decide +kernel
theorem dL_law_253 : decode cL_law 253 = .ok (.invokevirtual 36, 3) := by decide +kernel
theorem dL_law_256 : decode cL_law 256 = .ok (.if_icmp .eq 249, 3) := by decide +kernel
theorem dL_law_259 : decode cL_law 259 = .ok (.iconst 0, 1) := by decide +kernel
theorem dL_law_260 : decode cL_law 260 = .ok (.ireturn, 1) := by decide +kernel
theorem dL_law_261 : decode cL_law 261 = .ok (.aload_n 1, 1) := by decide +kernel
theorem dL_law_262 : decode cL_law 262 = .ok (.aload_n 0, 1) := by decide +kernel
theorem dL_law_263 : decode cL_law 263 = .ok (.iload_n 3, 1) := by decide +kernel
theorem dL_law_264 : decode cL_law 264 = .ok (.iconst 1, 1) := by decide +kernel
theorem dL_law_265 : decode cL_law 265 = .ok (.iadd, 1) := by decide +kernel
theorem dL_law_266 : decode cL_law 266 = .ok (.iaload, 1) := by decide +kernel
theorem dL_law_267 : decode cL_law 267 = .ok (.invokevirtual 37, 3) := by decide +kernel
theorem dL_law_270 : decode cL_law 270 = .ok (.aload_n 2, 1) := by decide +kernel
theorem dL_law_271 : decode cL_law 271 = .ok (.aload_n 0, 1) := by decide +kernel
theorem dL_law_272 : decode cL_law 272 = .ok (.iload_n 3, 1) := by decide +kernel
theorem dL_law_273 : decode cL_law 273 = .ok (.iconst 1, 1) := by decide +kernel
theorem dL_law_274 : decode cL_law 274 = .ok (.iadd, 1) := by decide +kernel
theorem dL_law_275 : decode cL_law 275 = .ok (.iaload, 1) := by decide +kernel
theorem dL_law_276 : decode cL_law 276 = .ok (.invokevirtual 40, 3) := by decide +kernel
theorem dL_law_279 : decode cL_law 279 = .ok (.if_icmp .eq 226, 3) := by decide +kernel
theorem dL_law_282 : decode cL_law 282 = .ok (.iconst 0, 1) := by decide +kernel
theorem dL_law_283 : decode cL_law 283 = .ok (.ireturn, 1) := by decide +kernel
theorem dL_law_284 : decode cL_law 284 = .ok (.aload_n 1, 1) := by decide +kernel
theorem dL_law_285 : decode cL_law 285 = .ok (.aload_n 0, 1) := by decide +kernel
theorem dL_law_286 : decode cL_law 286 = .ok (.iload_n 3, 1) := by decide +kernel
theorem dL_law_287 : decode cL_law 287 = .ok (.iconst 1, 1) := by decide +kernel
theorem dL_law_288 : decode cL_law 288 = .ok (.iadd, 1) := by decide +kernel
theorem dL_law_289 : decode cL_law 289 = .ok (.iaload, 1) := by decide +kernel
theorem dL_law_290 : decode cL_law 290 = .ok (.invokevirtual 41, 3) := by decide +kernel
theorem dL_law_293 : decode cL_law 293 = .ok (.aload_n 2, 1) := by decide +kernel
theorem dL_law_294 : decode cL_law 294 = .ok (.aload_n 0, 1) := by decide +kernel
theorem dL_law_295 : decode cL_law 295 = .ok (.iload_n 3, 1) := by decide +kernel
theorem dL_law_296 : decode cL_law 296 = .ok (.iconst 1, 1) := by decide +kernel
theorem dL_law_297 : decode cL_law 297 = .ok (.iadd, 1) := by decide +kernel
theorem dL_law_298 : decode cL_law 298 = .ok (.iaload, 1) := by decide +kernel
theorem dL_law_299 : decode cL_law 299 = .ok (.invokevirtual 44, 3) := by decide +kernel
theorem dL_law_302 : decode cL_law 302 = .ok (.if_icmp .eq 203, 3) := by decide +kernel
theorem dL_law_305 : decode cL_law 305 = .ok (.iconst 0, 1) := by decide +kernel
theorem dL_law_306 : decode cL_law 306 = .ok (.ireturn, 1) := by decide +kernel
theorem dL_law_307 : decode cL_law 307 = .ok (.aload_n 1, 1) := by decide +kernel
theorem dL_law_308 : decode cL_law 308 = .ok (.aload_n 0, 1) := by decide +kernel
theorem dL_law_309 : decode cL_law 309 = .ok (.iload_n 3, 1) := by decide +kernel
theorem dL_law_310 : decode cL_law 310 = .ok (.iconst 1, 1) := by decide +kernel
theorem dL_law_311 : decode cL_law 311 = .ok (.iadd, 1) := by decide +kernel
theorem dL_law_312 : decode cL_law 312 = .ok (.iaload, 1) := by decide +kernel
theorem dL_law_313 : decode cL_law 313 = .ok (.invokevirtual 45, 3) := by decide +kernel
theorem dL_law_316 : decode cL_law 316 = .ok (.aload_n 2, 1) := by decide +kernel
theorem dL_law_317 : decode cL_law 317 = .ok (.aload_n 0, 1) := by decide +kernel
theorem dL_law_318 : decode cL_law 318 = .ok (.iload_n 3, 1) := by decide +kernel
theorem dL_law_319 : decode cL_law 319 = .ok (.iconst 1, 1) := by decide +kernel
theorem dL_law_320 : decode cL_law 320 = .ok (.iadd, 1) := by decide +kernel
theorem dL_law_321 : decode cL_law 321 = .ok (.iaload, 1) := by decide +kernel
theorem dL_law_322 : decode cL_law 322 = .ok (.invokevirtual 48, 3) := by decide +kernel
theorem dL_law_325 : decode cL_law 325 = .ok (.if_icmp .eq 180, 3) := by decide +kernel
theorem dL_law_328 : decode cL_law 328 = .ok (.iconst 0, 1) := by decide +kernel
theorem dL_law_329 : decode cL_law 329 = .ok (.ireturn, 1) := by decide +kernel
theorem dL_law_330 : decode cL_law 330 = .ok (.aload_n 1, 1) := by decide +kernel
theorem dL_law_331 : decode cL_law 331 = .ok (.aload_n 0, 1) := by decide +kernel
theorem dL_law_332 : decode cL_law 332 = .ok (.iload_n 3, 1) := by decide +kernel
theorem dL_law_333 : decode cL_law 333 = .ok (.iconst 1, 1) := by decide +kernel
theorem dL_law_334 : decode cL_law 334 = .ok (.iadd, 1) := by decide +kernel
theorem dL_law_335 : decode cL_law 335 = .ok (.iaload, 1) := by decide +kernel
theorem dL_law_336 : decode cL_law 336 = .ok (.aload_n 0, 1) := by decide +kernel
theorem dL_law_337 : decode cL_law 337 = .ok (.iload_n 3, 1) := by decide +kernel
theorem dL_law_338 : decode cL_law 338 = .ok (.iconst 2, 1) := by decide +kernel
theorem dL_law_339 : decode cL_law 339 = .ok (.iadd, 1) := by decide +kernel
theorem dL_law_340 : decode cL_law 340 = .ok (.iaload, 1) := by decide +kernel
theorem dL_law_341 : decode cL_law 341 = .ok (.invokevirtual 49, 3) := by decide +kernel
theorem dL_law_344 : decode cL_law 344 = .ok (.aload_n 2, 1) := by decide +kernel
theorem dL_law_345 : decode cL_law 345 = .ok (.aload_n 0, 1) := by decide +kernel
theorem dL_law_346 : decode cL_law 346 = .ok (.iload_n 3, 1) := by decide +kernel
theorem dL_law_347 : decode cL_law 347 = .ok (.iconst 1, 1) := by decide +kernel
theorem dL_law_348 : decode cL_law 348 = .ok (.iadd, 1) := by decide +kernel
theorem dL_law_349 : decode cL_law 349 = .ok (.iaload, 1) := by decide +kernel
theorem dL_law_350 : decode cL_law 350 = .ok (.aload_n 0, 1) := by decide +kernel
theorem dL_law_351 : decode cL_law 351 = .ok (.iload_n 3, 1) := by decide +kernel
theorem dL_law_352 : decode cL_law 352 = .ok (.iconst 2, 1) := by decide +kernel
theorem dL_law_353 : decode cL_law 353 = .ok (.iadd, 1) := by decide +kernel
theorem dL_law_354 : decode cL_law 354 = .ok (.iaload, 1) := by decide +kernel
theorem dL_law_355 : decode cL_law 355 = .ok (.invokevirtual 53, 3) := by decide +kernel
theorem dL_law_358 : decode cL_law 358 = .ok (.if_icmp .eq 147, 3) := by decide +kernel
theorem dL_law_361 : decode cL_law 361 = .ok (.iconst 0, 1) := by decide +kernel
theorem dL_law_362 : decode cL_law 362 = .ok (.ireturn, 1) := by decide +kernel
theorem dL_law_363 : decode cL_law 363 = .ok (.aload_n 1, 1) := by decide +kernel
theorem dL_law_364 : decode cL_law 364 = .ok (.aload_n 0, 1) := by decide +kernel
theorem dL_law_365 : decode cL_law 365 = .ok (.iload_n 3, 1) := by decide +kernel
theorem dL_law_366 : decode cL_law 366 = .ok (.iconst 1, 1) := by decide +kernel
theorem dL_law_367 : decode cL_law 367 = .ok (.iadd, 1) := by decide +kernel
theorem dL_law_368 : decode cL_law 368 = .ok (.iaload, 1) := by decide +kernel
theorem dL_law_369 : decode cL_law 369 = .ok (.invokevirtual 54, 3) := by decide +kernel
theorem dL_law_372 : decode cL_law 372 = .ok (.aload_n 2, 1) := by decide +kernel
theorem dL_law_373 : decode cL_law 373 = .ok (.aload_n 0, 1) := by decide +kernel
theorem dL_law_374 : decode cL_law 374 = .ok (.iload_n 3, 1) := by decide +kernel
theorem dL_law_375 : decode cL_law 375 = .ok (.iconst 1, 1) := by decide +kernel
theorem dL_law_376 : decode cL_law 376 = .ok (.iadd, 1) := by decide +kernel
theorem dL_law_377 : decode cL_law 377 = .ok (.iaload, 1) := by decide +kernel
theorem dL_law_378 : decode cL_law 378 = .ok (.invokevirtual 58, 3) := by decide +kernel
theorem dL_law_381 : decode cL_law 381 = .ok (.if_icmp .eq 124, 3) := by decide +kernel
theorem dL_law_384 : decode cL_law 384 = .ok (.iconst 0, 1) := by decide +kernel
theorem dL_law_385 : decode cL_law 385 = .ok (.ireturn, 1) := by decide +kernel
theorem dL_law_386 : decode cL_law 386 = .ok (.aload_n 1, 1) := by decide +kernel
theorem dL_law_387 : decode cL_law 387 = .ok (.aload_n 0, 1) := by decide +kernel
theorem dL_law_388 : decode cL_law 388 = .ok (.iload_n 3, 1) := by decide +kernel
theorem dL_law_389 : decode cL_law 389 = .ok (.iconst 1, 1) := by decide +kernel
theorem dL_law_390 : decode cL_law 390 = .ok (.iadd, 1) := by decide +kernel
theorem dL_law_391 : decode cL_law 391 = .ok (.iaload, 1) := by decide +kernel
theorem dL_law_392 : decode cL_law 392 = .ok (.aload_n 0, 1) := by decide +kernel
theorem dL_law_393 : decode cL_law 393 = .ok (.iload_n 3, 1) := by decide +kernel
theorem dL_law_394 : decode cL_law 394 = .ok (.iconst 2, 1) := by decide +kernel
theorem dL_law_395 : decode cL_law 395 = .ok (.iadd, 1) := by decide +kernel
theorem dL_law_396 : decode cL_law 396 = .ok (.iaload, 1) := by decide +kernel
theorem dL_law_397 : decode cL_law 397 = .ok (.invokevirtual 59, 3) := by decide +kernel
theorem dL_law_400 : decode cL_law 400 = .ok (.aload_n 2, 1) := by decide +kernel
theorem dL_law_401 : decode cL_law 401 = .ok (.aload_n 0, 1) := by decide +kernel
theorem dL_law_402 : decode cL_law 402 = .ok (.iload_n 3, 1) := by decide +kernel
theorem dL_law_403 : decode cL_law 403 = .ok (.iconst 1, 1) := by decide +kernel
theorem dL_law_404 : decode cL_law 404 = .ok (.iadd, 1) := by decide +kernel
theorem dL_law_405 : decode cL_law 405 = .ok (.iaload, 1) := by decide +kernel
theorem dL_law_406 : decode cL_law 406 = .ok (.aload_n 0, 1) := by decide +kernel
theorem dL_law_407 : decode cL_law 407 = .ok (.iload_n 3, 1) := by decide +kernel
theorem dL_law_408 : decode cL_law 408 = .ok (.iconst 2, 1) := by decide +kernel
theorem dL_law_409 : decode cL_law 409 = .ok (.iadd, 1) := by decide +kernel
theorem dL_law_410 : decode cL_law 410 = .ok (.iaload, 1) := by decide +kernel
theorem dL_law_411 : decode cL_law 411 = .ok (.invokevirtual 62, 3) := by decide +kernel
theorem dL_law_414 : decode cL_law 414 = .ok (.if_icmp .eq 91, 3) := by decide +kernel
theorem dL_law_417 : decode cL_law 417 = .ok (.iconst 0, 1) := by decide +kernel
theorem dL_law_418 : decode cL_law 418 = .ok (.ireturn, 1) := by decide +kernel
theorem dL_law_419 : decode cL_law 419 = .ok (.aload_n 1, 1) := by decide +kernel
theorem dL_law_420 : decode cL_law 420 = .ok (.aload_n 0, 1) := by decide +kernel
theorem dL_law_421 : decode cL_law 421 = .ok (.iload_n 3, 1) := by decide +kernel
theorem dL_law_422 : decode cL_law 422 = .ok (.iconst 1, 1) := by decide +kernel
theorem dL_law_423 : decode cL_law 423 = .ok (.iadd, 1) := by decide +kernel
theorem dL_law_424 : decode cL_law 424 = .ok (.iaload, 1) := by decide +kernel
theorem dL_law_425 : decode cL_law 425 = .ok (.aload_n 0, 1) := by decide +kernel
theorem dL_law_426 : decode cL_law 426 = .ok (.iload_n 3, 1) := by decide +kernel
theorem dL_law_427 : decode cL_law 427 = .ok (.iconst 2, 1) := by decide +kernel
theorem dL_law_428 : decode cL_law 428 = .ok (.iadd, 1) := by decide +kernel
theorem dL_law_429 : decode cL_law 429 = .ok (.iaload, 1) := by decide +kernel
theorem dL_law_430 : decode cL_law 430 = .ok (.aload_n 0, 1) := by decide +kernel
theorem dL_law_431 : decode cL_law 431 = .ok (.iload_n 3, 1) := by decide +kernel
theorem dL_law_432 : decode cL_law 432 = .ok (.iconst 3, 1) := by decide +kernel
theorem dL_law_433 : decode cL_law 433 = .ok (.iadd, 1) := by decide +kernel
theorem dL_law_434 : decode cL_law 434 = .ok (.iaload, 1) := by decide +kernel
theorem dL_law_435 : decode cL_law 435 = .ok (.invokevirtual 63, 3) := by decide +kernel
theorem dL_law_438 : decode cL_law 438 = .ok (.aload_n 2, 1) := by decide +kernel
theorem dL_law_439 : decode cL_law 439 = .ok (.aload_n 0, 1) := by decide +kernel
theorem dL_law_440 : decode cL_law 440 = .ok (.iload_n 3, 1) := by decide +kernel
theorem dL_law_441 : decode cL_law 441 = .ok (.iconst 1, 1) := by decide +kernel
theorem dL_law_442 : decode cL_law 442 = .ok (.iadd, 1) := by decide +kernel
theorem dL_law_443 : decode cL_law 443 = .ok (.iaload, 1) := by decide +kernel
theorem dL_law_444 : decode cL_law 444 = .ok (.aload_n 0, 1) := by decide +kernel
theorem dL_law_445 : decode cL_law 445 = .ok (.iload_n 3, 1) := by decide +kernel
theorem dL_law_446 : decode cL_law 446 = .ok (.iconst 2, 1) := by decide +kernel
theorem dL_law_447 : decode cL_law 447 = .ok (.iadd, 1) := by decide +kernel
theorem dL_law_448 : decode cL_law 448 = .ok (.iaload, 1) := by decide +kernel
theorem dL_law_449 : decode cL_law 449 = .ok (.aload_n 0, 1) := by decide +kernel
theorem dL_law_450 : decode cL_law 450 = .ok (.iload_n 3, 1) := by decide +kernel
theorem dL_law_451 : decode cL_law 451 = .ok (.iconst 3, 1) := by decide +kernel
theorem dL_law_452 : decode cL_law 452 = .ok (.iadd, 1) := by decide +kernel
theorem dL_law_453 : decode cL_law 453 = .ok (.iaload, 1) := by decide +kernel
theorem dL_law_454 : decode cL_law 454 = .ok (.invokevirtual 66, 3) := by decide +kernel
theorem dL_law_457 : decode cL_law 457 = .ok (.if_icmp .eq 48, 3) := by decide +kernel
theorem dL_law_460 : decode cL_law 460 = .ok (.iconst 0, 1) := by decide +kernel
theorem dL_law_461 : decode cL_law 461 = .ok (.ireturn, 1) := by decide +kernel
theorem dL_law_462 : decode cL_law 462 = .ok (.aload_n 1, 1) := by decide +kernel
theorem dL_law_463 : decode cL_law 463 = .ok (.aload_n 0, 1) := by decide +kernel
theorem dL_law_464 : decode cL_law 464 = .ok (.iload_n 3, 1) := by decide +kernel
theorem dL_law_465 : decode cL_law 465 = .ok (.iconst 1, 1) := by decide +kernel
theorem dL_law_466 : decode cL_law 466 = .ok (.iadd, 1) := by decide +kernel
theorem dL_law_467 : decode cL_law 467 = .ok (.iaload, 1) := by decide +kernel
theorem dL_law_468 : decode cL_law 468 = .ok (.aload_n 0, 1) := by decide +kernel
theorem dL_law_469 : decode cL_law 469 = .ok (.iload_n 3, 1) := by decide +kernel
theorem dL_law_470 : decode cL_law 470 = .ok (.iconst 2, 1) := by decide +kernel
theorem dL_law_471 : decode cL_law 471 = .ok (.iadd, 1) := by decide +kernel
theorem dL_law_472 : decode cL_law 472 = .ok (.iaload, 1) := by decide +kernel
theorem dL_law_473 : decode cL_law 473 = .ok (.aload_n 0, 1) := by decide +kernel
theorem dL_law_474 : decode cL_law 474 = .ok (.iload_n 3, 1) := by decide +kernel
theorem dL_law_475 : decode cL_law 475 = .ok (.iconst 3, 1) := by decide +kernel
theorem dL_law_476 : decode cL_law 476 = .ok (.iadd, 1) := by decide +kernel
theorem dL_law_477 : decode cL_law 477 = .ok (.iaload, 1) := by decide +kernel
theorem dL_law_478 : decode cL_law 478 = .ok (.invokevirtual 67, 3) := by decide +kernel
theorem dL_law_481 : decode cL_law 481 = .ok (.aload_n 2, 1) := by decide +kernel
theorem dL_law_482 : decode cL_law 482 = .ok (.aload_n 0, 1) := by decide +kernel
theorem dL_law_483 : decode cL_law 483 = .ok (.iload_n 3, 1) := by decide +kernel
theorem dL_law_484 : decode cL_law 484 = .ok (.iconst 1, 1) := by decide +kernel
theorem dL_law_485 : decode cL_law 485 = .ok (.iadd, 1) := by decide +kernel
theorem dL_law_486 : decode cL_law 486 = .ok (.iaload, 1) := by decide +kernel
theorem dL_law_487 : decode cL_law 487 = .ok (.aload_n 0, 1) := by decide +kernel
theorem dL_law_488 : decode cL_law 488 = .ok (.iload_n 3, 1) := by decide +kernel
theorem dL_law_489 : decode cL_law 489 = .ok (.iconst 2, 1) := by decide +kernel
theorem dL_law_490 : decode cL_law 490 = .ok (.iadd, 1) := by decide +kernel
theorem dL_law_491 : decode cL_law 491 = .ok (.iaload, 1) := by decide +kernel
theorem dL_law_492 : decode cL_law 492 = .ok (.aload_n 0, 1) := by decide +kernel
theorem dL_law_493 : decode cL_law 493 = .ok (.iload_n 3, 1) := by decide +kernel
theorem dL_law_494 : decode cL_law 494 = .ok (.iconst 3, 1) := by decide +kernel
theorem dL_law_495 : decode cL_law 495 = .ok (.iadd, 1) := by decide +kernel
theorem dL_law_496 : decode cL_law 496 = .ok (.iaload, 1) := by decide +kernel
theorem dL_law_497 : decode cL_law 497 = .ok (.invokevirtual 70, 3) := by decide +kernel
theorem dL_law_500 : decode cL_law 500 = .ok (.if_icmp .eq 5, 3) := by decide +kernel
theorem dL_law_503 : decode cL_law 503 = .ok (.iconst 0, 1) := by decide +kernel
theorem dL_law_504 : decode cL_law 504 = .ok (.ireturn, 1) := by decide +kernel
theorem dL_law_505 : decode cL_law 505 = .ok (.iinc 3 5, 3) := by decide +kernel
theorem dL_law_508 : decode cL_law 508 = .ok (.goto (-490), 3) := by decide +kernel
theorem dL_law_511 : decode cL_law 511 = .ok (.iconst 1, 1) := by decide +kernel
theorem dL_law_512 : decode cL_law 512 = .ok (.ireturn, 1) := by decide +kernel
end
section
set_option maxRecDepth 100000
theorem q16 : (Jvm.Cond.initialized "LeapJoin") ∈ lw_all := lw_g (lw_at lw_m1 1 rfl) rfl
theorem q19 : (Jvm.Cond.instantiable "LeapJoin" (8 : Nat)) ∈ lw_all := lw_g (lw_at lw_m1 4 rfl) rfl
theorem q21 : (Jvm.Cond.instanceMethod ({ cls := "LeapJoin", name := "<init>", desc := "()V" } : Jvm.MethodName)) ∈ lw_all := lw_g (lw_at lw_m1 6 rfl) rfl
theorem q22 : (Jvm.Cond.code ({ cls := "LeapJoin", name := "<init>", desc := "()V" } : Jvm.MethodName) prog_1_method_1_code (1 : Nat) (Option.none : Option Jvm.ClassFile.FieldType)) ∈ lw_all := lw_g (lw_at lw_m1 7 rfl) rfl
theorem q23 : (Jvm.Cond.methodLink "LeapJoin" (1 : Nat) ({ cls := "java/lang/Object", name := "<init>", desc := "()V" } : Jvm.MethodName)) ∈ lw_all := lw_g (lw_at lw_m1 8 rfl) rfl
theorem q26 : (Jvm.Cond.fieldLink "LeapJoin" (7 : Nat) "LeapJoin" "onward" "[S") ∈ lw_all := lw_g (lw_at lw_m1 11 rfl) rfl
theorem q27 : (Jvm.Cond.fieldLink "LeapJoin" (13 : Nat) "LeapJoin" "backward" "[S") ∈ lw_all := lw_g (lw_at lw_m1 12 rfl) rfl
theorem q28 : (Jvm.Cond.fieldLink "LeapJoin" (16 : Nat) "LeapJoin" "relationOf" "[B") ∈ lw_all := lw_g (lw_at lw_m1 13 rfl) rfl
theorem q29 : (Jvm.Cond.fieldLink "LeapJoin" (20 : Nat) "LeapJoin" "firstOf" "[B") ∈ lw_all := lw_g (lw_at lw_m1 14 rfl) rfl
theorem q30 : (Jvm.Cond.fieldLink "LeapJoin" (23 : Nat) "LeapJoin" "secondOf" "[B") ∈ lw_all := lw_g (lw_at lw_m1 15 rfl) rfl
theorem q31 : (Jvm.Cond.fieldLink "LeapJoin" (50 : Nat) "LeapJoin" "atoms" "I") ∈ lw_all := lw_g (lw_at lw_m1 16 rfl) rfl
theorem q32 : (Jvm.Cond.fieldLink "LeapJoin" (26 : Nat) "LeapJoin" "thing" "[B") ∈ lw_all := lw_g (lw_at lw_m1 17 rfl) rfl
theorem q33 : (Jvm.Cond.fieldLink "LeapJoin" (29 : Nat) "LeapJoin" "least" "[B") ∈ lw_all := lw_g (lw_at lw_m1 18 rfl) rfl
theorem q34 : (Jvm.Cond.laysFinal "LeapJoin" "LeapJoin" "onward" "[S") ∈ lw_all := lw_g (lw_at lw_m1 19 rfl) rfl
theorem q35 : (Jvm.Cond.soleField "LeapJoin" "onward") ∈ lw_all := lw_g (lw_at lw_m1 20 rfl) rfl
theorem q36 : (Jvm.Cond.laysFinal "LeapJoin" "LeapJoin" "backward" "[S") ∈ lw_all := lw_g (lw_at lw_m1 21 rfl) rfl
theorem q37 : (Jvm.Cond.soleField "LeapJoin" "backward") ∈ lw_all := lw_g (lw_at lw_m1 22 rfl) rfl
theorem q38 : (Jvm.Cond.laysFinal "LeapJoin" "LeapJoin" "relationOf" "[B") ∈ lw_all := lw_g (lw_at lw_m1 23 rfl) rfl
theorem q39 : (Jvm.Cond.soleField "LeapJoin" "relationOf") ∈ lw_all := lw_g (lw_at lw_m1 24 rfl) rfl
theorem q40 : (Jvm.Cond.laysFinal "LeapJoin" "LeapJoin" "firstOf" "[B") ∈ lw_all := lw_g (lw_at lw_m1 25 rfl) rfl
theorem q41 : (Jvm.Cond.soleField "LeapJoin" "firstOf") ∈ lw_all := lw_g (lw_at lw_m1 26 rfl) rfl
theorem q42 : (Jvm.Cond.laysFinal "LeapJoin" "LeapJoin" "secondOf" "[B") ∈ lw_all := lw_g (lw_at lw_m1 27 rfl) rfl
theorem q43 : (Jvm.Cond.soleField "LeapJoin" "secondOf") ∈ lw_all := lw_g (lw_at lw_m1 28 rfl) rfl
theorem q44 : (Jvm.Cond.lays "LeapJoin" "LeapJoin" "atoms" "I") ∈ lw_all := lw_g (lw_at lw_m1 29 rfl) rfl
theorem q45 : (Jvm.Cond.soleField "LeapJoin" "atoms") ∈ lw_all := lw_g (lw_at lw_m1 30 rfl) rfl
theorem q46 : (Jvm.Cond.laysFinal "LeapJoin" "LeapJoin" "thing" "[B") ∈ lw_all := lw_g (lw_at lw_m1 31 rfl) rfl
theorem q47 : (Jvm.Cond.soleField "LeapJoin" "thing") ∈ lw_all := lw_g (lw_at lw_m1 32 rfl) rfl
theorem q48 : (Jvm.Cond.laysFinal "LeapJoin" "LeapJoin" "least" "[B") ∈ lw_all := lw_g (lw_at lw_m1 33 rfl) rfl
theorem q49 : (Jvm.Cond.soleField "LeapJoin" "least") ∈ lw_all := lw_g (lw_at lw_m1 34 rfl) rfl
theorem q50 : (Jvm.Cond.superclass "LeapJoin" "java/lang/Object") ∈ lw_all := lw_g (lw_at lw_m1 35 rfl) rfl
theorem q54 : (Jvm.Cond.instanceMethod ({ cls := "LeapJoin", name := "pair", desc := "(IIIZ)Z" } : Jvm.MethodName)) ∈ lw_all := lw_g (lw_at lw_m1 39 rfl) rfl
theorem q55 : (Jvm.Cond.selects "LeapJoin" ({ cls := "LeapJoin", name := "pair", desc := "(IIIZ)Z" } : Jvm.MethodName) ({ cls := "LeapJoin", name := "pair", desc := "(IIIZ)Z" } : Jvm.MethodName)) ∈ lw_all := lw_g (lw_at lw_m1 40 rfl) rfl
theorem q56 : (Jvm.Cond.code ({ cls := "LeapJoin", name := "pair", desc := "(IIIZ)Z" } : Jvm.MethodName) prog_1_method_8_code (5 : Nat) (Option.some Jvm.ClassFile.FieldType.boolean)) ∈ lw_all := lw_g (lw_at lw_m1 41 rfl) rfl
theorem q57 : (Jvm.Cond.methodLink "LeapJoin" (32 : Nat) ({ cls := "LeapJoin", name := "isRelation", desc := "(I)Z" } : Jvm.MethodName)) ∈ lw_all := lw_g (lw_at lw_m1 42 rfl) rfl
theorem q58 : (Jvm.Cond.static ({ cls := "LeapJoin", name := "isRelation", desc := "(I)Z" } : Jvm.MethodName)) ∈ lw_all := lw_g (lw_at lw_m1 43 rfl) rfl
theorem q59 : (Jvm.Cond.code ({ cls := "LeapJoin", name := "isRelation", desc := "(I)Z" } : Jvm.MethodName) prog_1_method_2_code (1 : Nat) (Option.some Jvm.ClassFile.FieldType.boolean)) ∈ lw_all := lw_g (lw_at lw_m1 44 rfl) rfl
theorem q60 : (Jvm.Cond.methodLink "LeapJoin" (36 : Nat) ({ cls := "LeapJoin", name := "isThing", desc := "(I)Z" } : Jvm.MethodName)) ∈ lw_all := lw_g (lw_at lw_m1 45 rfl) rfl
theorem q61 : (Jvm.Cond.static ({ cls := "LeapJoin", name := "isThing", desc := "(I)Z" } : Jvm.MethodName)) ∈ lw_all := lw_g (lw_at lw_m1 46 rfl) rfl
theorem q62 : (Jvm.Cond.code ({ cls := "LeapJoin", name := "isThing", desc := "(I)Z" } : Jvm.MethodName) prog_1_method_3_code (1 : Nat) (Option.some Jvm.ClassFile.FieldType.boolean)) ∈ lw_all := lw_g (lw_at lw_m1 47 rfl) rfl
theorem q63 : (Jvm.Cond.methodLink "LeapJoin" (39 : Nat) ({ cls := "LeapJoin", name := "put", desc := "(IIIZ)V" } : Jvm.MethodName)) ∈ lw_all := lw_g (lw_at lw_m1 48 rfl) rfl
theorem q64 : (Jvm.Cond.privateMethod ({ cls := "LeapJoin", name := "put", desc := "(IIIZ)V" } : Jvm.MethodName)) ∈ lw_tbl := lw_at lw_m1 49 rfl
theorem q65 : (Jvm.Cond.instanceMethod ({ cls := "LeapJoin", name := "put", desc := "(IIIZ)V" } : Jvm.MethodName)) ∈ lw_all := lw_g (lw_at lw_m1 50 rfl) rfl
theorem q66 : (Jvm.Cond.code ({ cls := "LeapJoin", name := "put", desc := "(IIIZ)V" } : Jvm.MethodName) prog_1_method_7_code (7 : Nat) (Option.none : Option Jvm.ClassFile.FieldType)) ∈ lw_all := lw_g (lw_at lw_m1 51 rfl) rfl
theorem q68 : (Jvm.Cond.instanceMethod ({ cls := "LeapJoin", name := "size", desc := "(I)I" } : Jvm.MethodName)) ∈ lw_all := lw_g (lw_at lw_m1 53 rfl) rfl
theorem q69 : (Jvm.Cond.selects "LeapJoin" ({ cls := "LeapJoin", name := "size", desc := "(I)I" } : Jvm.MethodName) ({ cls := "LeapJoin", name := "size", desc := "(I)I" } : Jvm.MethodName)) ∈ lw_all := lw_g (lw_at lw_m1 54 rfl) rfl
theorem q70 : (Jvm.Cond.code ({ cls := "LeapJoin", name := "size", desc := "(I)I" } : Jvm.MethodName) prog_1_method_9_code (4 : Nat) (Option.some Jvm.ClassFile.FieldType.int)) ∈ lw_all := lw_g (lw_at lw_m1 55 rfl) rfl
theorem q71 : (Jvm.Cond.methodLink "LeapJoin" (43 : Nat) ({ cls := "LeapJoin", name := "ones", desc := "(I)I" } : Jvm.MethodName)) ∈ lw_all := lw_g (lw_at lw_m1 56 rfl) rfl
theorem q72 : (Jvm.Cond.static ({ cls := "LeapJoin", name := "ones", desc := "(I)I" } : Jvm.MethodName)) ∈ lw_all := lw_g (lw_at lw_m1 57 rfl) rfl
theorem q73 : (Jvm.Cond.code ({ cls := "LeapJoin", name := "ones", desc := "(I)I" } : Jvm.MethodName) prog_1_method_6_code (3 : Nat) (Option.some Jvm.ClassFile.FieldType.int)) ∈ lw_all := lw_g (lw_at lw_m1 58 rfl) rfl
theorem q75 : (Jvm.Cond.instanceMethod ({ cls := "LeapJoin", name := "atom", desc := "(III)I" } : Jvm.MethodName)) ∈ lw_all := lw_g (lw_at lw_m1 60 rfl) rfl
theorem q76 : (Jvm.Cond.selects "LeapJoin" ({ cls := "LeapJoin", name := "atom", desc := "(III)I" } : Jvm.MethodName) ({ cls := "LeapJoin", name := "atom", desc := "(III)I" } : Jvm.MethodName)) ∈ lw_all := lw_g (lw_at lw_m1 61 rfl) rfl
theorem q77 : (Jvm.Cond.code ({ cls := "LeapJoin", name := "atom", desc := "(III)I" } : Jvm.MethodName) prog_1_method_10_code (4 : Nat) (Option.some Jvm.ClassFile.FieldType.int)) ∈ lw_all := lw_g (lw_at lw_m1 62 rfl) rfl
theorem q78 : (Jvm.Cond.methodLink "LeapJoin" (47 : Nat) ({ cls := "LeapJoin", name := "isVariable", desc := "(I)Z" } : Jvm.MethodName)) ∈ lw_all := lw_g (lw_at lw_m1 63 rfl) rfl
theorem q79 : (Jvm.Cond.static ({ cls := "LeapJoin", name := "isVariable", desc := "(I)Z" } : Jvm.MethodName)) ∈ lw_all := lw_g (lw_at lw_m1 64 rfl) rfl
theorem q80 : (Jvm.Cond.code ({ cls := "LeapJoin", name := "isVariable", desc := "(I)Z" } : Jvm.MethodName) prog_1_method_4_code (1 : Nat) (Option.some Jvm.ClassFile.FieldType.boolean)) ∈ lw_all := lw_g (lw_at lw_m1 65 rfl) rfl
theorem q82 : (Jvm.Cond.instanceMethod ({ cls := "LeapJoin", name := "drop", desc := "()I" } : Jvm.MethodName)) ∈ lw_all := lw_g (lw_at lw_m1 67 rfl) rfl
theorem q83 : (Jvm.Cond.selects "LeapJoin" ({ cls := "LeapJoin", name := "drop", desc := "()I" } : Jvm.MethodName) ({ cls := "LeapJoin", name := "drop", desc := "()I" } : Jvm.MethodName)) ∈ lw_all := lw_g (lw_at lw_m1 68 rfl) rfl
theorem q84 : (Jvm.Cond.code ({ cls := "LeapJoin", name := "drop", desc := "()I" } : Jvm.MethodName) prog_1_method_11_code (1 : Nat) (Option.some Jvm.ClassFile.FieldType.int)) ∈ lw_all := lw_g (lw_at lw_m1 69 rfl) rfl
theorem q86 : (Jvm.Cond.instanceMethod ({ cls := "LeapJoin", name := "count", desc := "()I" } : Jvm.MethodName)) ∈ lw_all := lw_g (lw_at lw_m1 71 rfl) rfl
theorem q87 : (Jvm.Cond.selects "LeapJoin" ({ cls := "LeapJoin", name := "count", desc := "()I" } : Jvm.MethodName) ({ cls := "LeapJoin", name := "count", desc := "()I" } : Jvm.MethodName)) ∈ lw_all := lw_g (lw_at lw_m1 72 rfl) rfl
theorem q88 : (Jvm.Cond.code ({ cls := "LeapJoin", name := "count", desc := "()I" } : Jvm.MethodName) prog_1_method_22_code (4 : Nat) (Option.some Jvm.ClassFile.FieldType.int)) ∈ lw_all := lw_g (lw_at lw_m1 73 rfl) rfl
theorem q89 : (Jvm.Cond.methodLink "LeapJoin" (89 : Nat) ({ cls := "LeapJoin", name := "nextFrom", desc := "(I)I" } : Jvm.MethodName)) ∈ lw_all := lw_g (lw_at lw_m1 74 rfl) rfl
theorem q90 : (Jvm.Cond.privateMethod ({ cls := "LeapJoin", name := "nextFrom", desc := "(I)I" } : Jvm.MethodName)) ∈ lw_tbl := lw_at lw_m1 75 rfl
theorem q91 : (Jvm.Cond.instanceMethod ({ cls := "LeapJoin", name := "nextFrom", desc := "(I)I" } : Jvm.MethodName)) ∈ lw_all := lw_g (lw_at lw_m1 76 rfl) rfl
theorem q92 : (Jvm.Cond.code ({ cls := "LeapJoin", name := "nextFrom", desc := "(I)I" } : Jvm.MethodName) prog_1_method_18_code (7 : Nat) (Option.some Jvm.ClassFile.FieldType.int)) ∈ lw_all := lw_g (lw_at lw_m1 77 rfl) rfl
theorem q93 : (Jvm.Cond.methodLink "LeapJoin" (76 : Nat) ({ cls := "LeapJoin", name := "digit", desc := "(II)I" } : Jvm.MethodName)) ∈ lw_all := lw_g (lw_at lw_m1 78 rfl) rfl
theorem q94 : (Jvm.Cond.static ({ cls := "LeapJoin", name := "digit", desc := "(II)I" } : Jvm.MethodName)) ∈ lw_all := lw_g (lw_at lw_m1 79 rfl) rfl
theorem q95 : (Jvm.Cond.code ({ cls := "LeapJoin", name := "digit", desc := "(II)I" } : Jvm.MethodName) prog_1_method_19_code (2 : Nat) (Option.some Jvm.ClassFile.FieldType.int)) ∈ lw_all := lw_g (lw_at lw_m1 80 rfl) rfl
theorem q96 : (Jvm.Cond.methodLink "LeapJoin" (79 : Nat) ({ cls := "LeapJoin", name := "leap", desc := "(II)I" } : Jvm.MethodName)) ∈ lw_all := lw_g (lw_at lw_m1 81 rfl) rfl
theorem q97 : (Jvm.Cond.privateMethod ({ cls := "LeapJoin", name := "leap", desc := "(II)I" } : Jvm.MethodName)) ∈ lw_tbl := lw_at lw_m1 82 rfl
theorem q98 : (Jvm.Cond.instanceMethod ({ cls := "LeapJoin", name := "leap", desc := "(II)I" } : Jvm.MethodName)) ∈ lw_all := lw_g (lw_at lw_m1 83 rfl) rfl
theorem q99 : (Jvm.Cond.code ({ cls := "LeapJoin", name := "leap", desc := "(II)I" } : Jvm.MethodName) prog_1_method_17_code (9 : Nat) (Option.some Jvm.ClassFile.FieldType.int)) ∈ lw_all := lw_g (lw_at lw_m1 84 rfl) rfl
theorem q100 : (Jvm.Cond.methodLink "LeapJoin" (69 : Nat) ({ cls := "LeapJoin", name := "has", desc := "(II)Z" } : Jvm.MethodName)) ∈ lw_all := lw_g (lw_at lw_m1 85 rfl) rfl
theorem q101 : (Jvm.Cond.privateMethod ({ cls := "LeapJoin", name := "has", desc := "(II)Z" } : Jvm.MethodName)) ∈ lw_tbl := lw_at lw_m1 86 rfl
theorem q102 : (Jvm.Cond.instanceMethod ({ cls := "LeapJoin", name := "has", desc := "(II)Z" } : Jvm.MethodName)) ∈ lw_all := lw_g (lw_at lw_m1 87 rfl) rfl
theorem q103 : (Jvm.Cond.code ({ cls := "LeapJoin", name := "has", desc := "(II)Z" } : Jvm.MethodName) prog_1_method_16_code (3 : Nat) (Option.some Jvm.ClassFile.FieldType.boolean)) ∈ lw_all := lw_g (lw_at lw_m1 88 rfl) rfl
theorem q104 : (Jvm.Cond.methodLink "LeapJoin" (72 : Nat) ({ cls := "LeapJoin", name := "allowedFrom", desc := "(III)I" } : Jvm.MethodName)) ∈ lw_all := lw_g (lw_at lw_m1 89 rfl) rfl
theorem q105 : (Jvm.Cond.privateMethod ({ cls := "LeapJoin", name := "allowedFrom", desc := "(III)I" } : Jvm.MethodName)) ∈ lw_tbl := lw_at lw_m1 90 rfl
theorem q106 : (Jvm.Cond.instanceMethod ({ cls := "LeapJoin", name := "allowedFrom", desc := "(III)I" } : Jvm.MethodName)) ∈ lw_all := lw_g (lw_at lw_m1 91 rfl) rfl
theorem q107 : (Jvm.Cond.code ({ cls := "LeapJoin", name := "allowedFrom", desc := "(III)I" } : Jvm.MethodName) prog_1_method_13_code (7 : Nat) (Option.some Jvm.ClassFile.FieldType.int)) ∈ lw_all := lw_g (lw_at lw_m1 92 rfl) rfl
theorem q108 : (Jvm.Cond.methodLink "LeapJoin" (58 : Nat) ({ cls := "LeapJoin", name := "nextOnDiagonal", desc := "(II)I" } : Jvm.MethodName)) ∈ lw_all := lw_g (lw_at lw_m1 93 rfl) rfl
theorem q109 : (Jvm.Cond.privateMethod ({ cls := "LeapJoin", name := "nextOnDiagonal", desc := "(II)I" } : Jvm.MethodName)) ∈ lw_tbl := lw_at lw_m1 94 rfl
theorem q110 : (Jvm.Cond.instanceMethod ({ cls := "LeapJoin", name := "nextOnDiagonal", desc := "(II)I" } : Jvm.MethodName)) ∈ lw_all := lw_g (lw_at lw_m1 95 rfl) rfl
theorem q111 : (Jvm.Cond.code ({ cls := "LeapJoin", name := "nextOnDiagonal", desc := "(II)I" } : Jvm.MethodName) prog_1_method_14_code (4 : Nat) (Option.some Jvm.ClassFile.FieldType.int)) ∈ lw_all := lw_g (lw_at lw_m1 96 rfl) rfl
theorem q112 : (Jvm.Cond.methodLink "LeapJoin" (54 : Nat) ({ cls := "LeapJoin", name := "in", desc := "(II)Z" } : Jvm.MethodName)) ∈ lw_all := lw_g (lw_at lw_m1 97 rfl) rfl
theorem q113 : (Jvm.Cond.static ({ cls := "LeapJoin", name := "in", desc := "(II)Z" } : Jvm.MethodName)) ∈ lw_all := lw_g (lw_at lw_m1 98 rfl) rfl
theorem q114 : (Jvm.Cond.code ({ cls := "LeapJoin", name := "in", desc := "(II)Z" } : Jvm.MethodName) prog_1_method_5_code (2 : Nat) (Option.some Jvm.ClassFile.FieldType.boolean)) ∈ lw_all := lw_g (lw_at lw_m1 99 rfl) rfl
theorem q115 : (Jvm.Cond.methodLink "LeapJoin" (62 : Nat) ({ cls := "LeapJoin", name := "from", desc := "(II)I" } : Jvm.MethodName)) ∈ lw_all := lw_g (lw_at lw_m1 100 rfl) rfl
theorem q116 : (Jvm.Cond.static ({ cls := "LeapJoin", name := "from", desc := "(II)I" } : Jvm.MethodName)) ∈ lw_all := lw_g (lw_at lw_m1 101 rfl) rfl
theorem q117 : (Jvm.Cond.code ({ cls := "LeapJoin", name := "from", desc := "(II)I" } : Jvm.MethodName) prog_1_method_12_code (3 : Nat) (Option.some Jvm.ClassFile.FieldType.int)) ∈ lw_all := lw_g (lw_at lw_m1 102 rfl) rfl
theorem q118 : (Jvm.Cond.methodLink "LeapJoin" (65 : Nat) ({ cls := "LeapJoin", name := "nextWithAny", desc := "(IIZ)I" } : Jvm.MethodName)) ∈ lw_all := lw_g (lw_at lw_m1 103 rfl) rfl
theorem q119 : (Jvm.Cond.privateMethod ({ cls := "LeapJoin", name := "nextWithAny", desc := "(IIZ)I" } : Jvm.MethodName)) ∈ lw_tbl := lw_at lw_m1 104 rfl
theorem q120 : (Jvm.Cond.instanceMethod ({ cls := "LeapJoin", name := "nextWithAny", desc := "(IIZ)I" } : Jvm.MethodName)) ∈ lw_all := lw_g (lw_at lw_m1 105 rfl) rfl
theorem q121 : (Jvm.Cond.code ({ cls := "LeapJoin", name := "nextWithAny", desc := "(IIZ)I" } : Jvm.MethodName) prog_1_method_15_code (5 : Nat) (Option.some Jvm.ClassFile.FieldType.int)) ∈ lw_all := lw_g (lw_at lw_m1 106 rfl) rfl
theorem q122 : (Jvm.Cond.methodLink "LeapJoin" (82 : Nat) ({ cls := "LeapJoin", name := "tightUpTo", desc := "(II)Z" } : Jvm.MethodName)) ∈ lw_all := lw_g (lw_at lw_m1 107 rfl) rfl
theorem q123 : (Jvm.Cond.privateMethod ({ cls := "LeapJoin", name := "tightUpTo", desc := "(II)Z" } : Jvm.MethodName)) ∈ lw_tbl := lw_at lw_m1 108 rfl
theorem q124 : (Jvm.Cond.instanceMethod ({ cls := "LeapJoin", name := "tightUpTo", desc := "(II)Z" } : Jvm.MethodName)) ∈ lw_all := lw_g (lw_at lw_m1 109 rfl) rfl
theorem q125 : (Jvm.Cond.code ({ cls := "LeapJoin", name := "tightUpTo", desc := "(II)Z" } : Jvm.MethodName) prog_1_method_20_code (4 : Nat) (Option.some Jvm.ClassFile.FieldType.boolean)) ∈ lw_all := lw_g (lw_at lw_m1 110 rfl) rfl
theorem q126 : (Jvm.Cond.methodLink "LeapJoin" (85 : Nat) ({ cls := "LeapJoin", name := "code", desc := "()I" } : Jvm.MethodName)) ∈ lw_all := lw_g (lw_at lw_m1 111 rfl) rfl
theorem q127 : (Jvm.Cond.privateMethod ({ cls := "LeapJoin", name := "code", desc := "()I" } : Jvm.MethodName)) ∈ lw_tbl := lw_at lw_m1 112 rfl
theorem q128 : (Jvm.Cond.instanceMethod ({ cls := "LeapJoin", name := "code", desc := "()I" } : Jvm.MethodName)) ∈ lw_all := lw_g (lw_at lw_m1 113 rfl) rfl
theorem q129 : (Jvm.Cond.code ({ cls := "LeapJoin", name := "code", desc := "()I" } : Jvm.MethodName) prog_1_method_21_code (1 : Nat) (Option.some Jvm.ClassFile.FieldType.int)) ∈ lw_all := lw_g (lw_at lw_m1 114 rfl) rfl
theorem q131 : (Jvm.Cond.instanceMethod ({ cls := "LeapJoin", name := "answer", desc := "(I)I" } : Jvm.MethodName)) ∈ lw_all := lw_g (lw_at lw_m1 116 rfl) rfl
theorem q132 : (Jvm.Cond.selects "LeapJoin" ({ cls := "LeapJoin", name := "answer", desc := "(I)I" } : Jvm.MethodName) ({ cls := "LeapJoin", name := "answer", desc := "(I)I" } : Jvm.MethodName)) ∈ lw_all := lw_g (lw_at lw_m1 117 rfl) rfl
theorem q133 : (Jvm.Cond.code ({ cls := "LeapJoin", name := "answer", desc := "(I)I" } : Jvm.MethodName) prog_1_method_23_code (4 : Nat) (Option.some Jvm.ClassFile.FieldType.int)) ∈ lw_all := lw_g (lw_at lw_m1 118 rfl) rfl
theorem q135 : (Jvm.Cond.instanceMethod ({ cls := "LeapJoin", name := "seek", desc := "(I)I" } : Jvm.MethodName)) ∈ lw_all := lw_g (lw_at lw_m1 120 rfl) rfl
theorem q136 : (Jvm.Cond.selects "LeapJoin" ({ cls := "LeapJoin", name := "seek", desc := "(I)I" } : Jvm.MethodName) ({ cls := "LeapJoin", name := "seek", desc := "(I)I" } : Jvm.MethodName)) ∈ lw_all := lw_g (lw_at lw_m1 121 rfl) rfl
theorem q137 : (Jvm.Cond.code ({ cls := "LeapJoin", name := "seek", desc := "(I)I" } : Jvm.MethodName) prog_1_method_24_code (2 : Nat) (Option.some Jvm.ClassFile.FieldType.int)) ∈ lw_all := lw_g (lw_at lw_m1 122 rfl) rfl
theorem q139 : (Jvm.Cond.instanceMethod ({ cls := "LeapJoin", name := "values", desc := "(I)I" } : Jvm.MethodName)) ∈ lw_all := lw_g (lw_at lw_m1 124 rfl) rfl
theorem q140 : (Jvm.Cond.selects "LeapJoin" ({ cls := "LeapJoin", name := "values", desc := "(I)I" } : Jvm.MethodName) ({ cls := "LeapJoin", name := "values", desc := "(I)I" } : Jvm.MethodName)) ∈ lw_all := lw_g (lw_at lw_m1 125 rfl) rfl
theorem q141 : (Jvm.Cond.code ({ cls := "LeapJoin", name := "values", desc := "(I)I" } : Jvm.MethodName) prog_1_method_25_code (5 : Nat) (Option.some Jvm.ClassFile.FieldType.int)) ∈ lw_all := lw_g (lw_at lw_m1 126 rfl) rfl
theorem q143 : (Jvm.Cond.instanceMethod ({ cls := "LeapJoin", name := "countWith", desc := "(II)I" } : Jvm.MethodName)) ∈ lw_all := lw_g (lw_at lw_m1 128 rfl) rfl
theorem q144 : (Jvm.Cond.selects "LeapJoin" ({ cls := "LeapJoin", name := "countWith", desc := "(II)I" } : Jvm.MethodName) ({ cls := "LeapJoin", name := "countWith", desc := "(II)I" } : Jvm.MethodName)) ∈ lw_all := lw_g (lw_at lw_m1 129 rfl) rfl
theorem q145 : (Jvm.Cond.code ({ cls := "LeapJoin", name := "countWith", desc := "(II)I" } : Jvm.MethodName) prog_1_method_26_code (6 : Nat) (Option.some Jvm.ClassFile.FieldType.int)) ∈ lw_all := lw_g (lw_at lw_m1 130 rfl) rfl
theorem q147 : (Jvm.Cond.instanceMethod ({ cls := "LeapJoin", name := "holds", desc := "(I)Z" } : Jvm.MethodName)) ∈ lw_all := lw_g (lw_at lw_m1 132 rfl) rfl
theorem q148 : (Jvm.Cond.selects "LeapJoin" ({ cls := "LeapJoin", name := "holds", desc := "(I)Z" } : Jvm.MethodName) ({ cls := "LeapJoin", name := "holds", desc := "(I)Z" } : Jvm.MethodName)) ∈ lw_all := lw_g (lw_at lw_m1 133 rfl) rfl
theorem q149 : (Jvm.Cond.code ({ cls := "LeapJoin", name := "holds", desc := "(I)Z" } : Jvm.MethodName) prog_1_method_27_code (2 : Nat) (Option.some Jvm.ClassFile.FieldType.boolean)) ∈ lw_all := lw_g (lw_at lw_m1 134 rfl) rfl
theorem q151 : (Jvm.Cond.instanceMethod ({ cls := "LeapJoin", name := "pairs", desc := "(II)I" } : Jvm.MethodName)) ∈ lw_all := lw_g (lw_at lw_m1 136 rfl) rfl
theorem q152 : (Jvm.Cond.selects "LeapJoin" ({ cls := "LeapJoin", name := "pairs", desc := "(II)I" } : Jvm.MethodName) ({ cls := "LeapJoin", name := "pairs", desc := "(II)I" } : Jvm.MethodName)) ∈ lw_all := lw_g (lw_at lw_m1 137 rfl) rfl
theorem q153 : (Jvm.Cond.code ({ cls := "LeapJoin", name := "pairs", desc := "(II)I" } : Jvm.MethodName) prog_1_method_28_code (8 : Nat) (Option.some Jvm.ClassFile.FieldType.int)) ∈ lw_all := lw_g (lw_at lw_m1 138 rfl) rfl
theorem q155 : (Jvm.Cond.instanceMethod ({ cls := "LeapJoin", name := "loss", desc := "(III)I" } : Jvm.MethodName)) ∈ lw_all := lw_g (lw_at lw_m1 140 rfl) rfl
theorem q156 : (Jvm.Cond.selects "LeapJoin" ({ cls := "LeapJoin", name := "loss", desc := "(III)I" } : Jvm.MethodName) ({ cls := "LeapJoin", name := "loss", desc := "(III)I" } : Jvm.MethodName)) ∈ lw_all := lw_g (lw_at lw_m1 141 rfl) rfl
theorem q157 : (Jvm.Cond.code ({ cls := "LeapJoin", name := "loss", desc := "(III)I" } : Jvm.MethodName) prog_1_method_29_code (6 : Nat) (Option.some Jvm.ClassFile.FieldType.int)) ∈ lw_all := lw_g (lw_at lw_m1 142 rfl) rfl
theorem q158 : (Jvm.Cond.methodLink "LeapJoin" (92 : Nat) ({ cls := "LeapJoin", name := "count", desc := "()I" } : Jvm.MethodName)) ∈ lw_all := lw_g (lw_at lw_m1 143 rfl) rfl
theorem q160 : (Jvm.Cond.instanceMethod ({ cls := "LeapJoin", name := "partners", desc := "(III)I" } : Jvm.MethodName)) ∈ lw_all := lw_g (lw_at lw_m1 145 rfl) rfl
theorem q161 : (Jvm.Cond.selects "LeapJoin" ({ cls := "LeapJoin", name := "partners", desc := "(III)I" } : Jvm.MethodName) ({ cls := "LeapJoin", name := "partners", desc := "(III)I" } : Jvm.MethodName)) ∈ lw_all := lw_g (lw_at lw_m1 146 rfl) rfl
theorem q162 : (Jvm.Cond.code ({ cls := "LeapJoin", name := "partners", desc := "(III)I" } : Jvm.MethodName) prog_1_method_30_code (4 : Nat) (Option.some Jvm.ClassFile.FieldType.int)) ∈ lw_all := lw_g (lw_at lw_m1 147 rfl) rfl
theorem in_X0 : ∀ w ∈ wsX00, w ∈ lw_all := lw_in wsX00 [34, 36, 38, 40, 42, 44, 46, 48] (by decide +kernel) (by decide +kernel)
theorem q17 : (Jvm.Cond.initialized "LeapJoinModel") ∈ lw_all := lw_g (lw_at lw_m1 2 rfl) rfl
theorem q164 : (Jvm.Cond.instantiable "LeapJoinModel" (6 : Nat)) ∈ lw_all := lw_g (lw_at lw_m1 149 rfl) rfl
theorem q166 : (Jvm.Cond.instanceMethod ({ cls := "LeapJoinModel", name := "<init>", desc := "()V" } : Jvm.MethodName)) ∈ lw_all := lw_g (lw_at lw_m1 151 rfl) rfl
theorem q167 : (Jvm.Cond.code ({ cls := "LeapJoinModel", name := "<init>", desc := "()V" } : Jvm.MethodName) prog_3_method_1_code (1 : Nat) (Option.none : Option Jvm.ClassFile.FieldType)) ∈ lw_all := lw_g (lw_at lw_m1 152 rfl) rfl
theorem q168 : (Jvm.Cond.methodLink "LeapJoinModel" (1 : Nat) ({ cls := "java/lang/Object", name := "<init>", desc := "()V" } : Jvm.MethodName)) ∈ lw_all := lw_g (lw_at lw_m1 153 rfl) rfl
theorem q169 : (Jvm.Cond.fieldLink "LeapJoinModel" (7 : Nat) "LeapJoinModel" "rows" "[I") ∈ lw_all := lw_g (lw_at lw_m1 154 rfl) rfl
theorem q170 : (Jvm.Cond.fieldLink "LeapJoinModel" (40 : Nat) "LeapJoinModel" "many" "I") ∈ lw_all := lw_g (lw_at lw_m1 155 rfl) rfl
theorem q171 : (Jvm.Cond.fieldLink "LeapJoinModel" (13 : Nat) "LeapJoinModel" "rels" "[I") ∈ lw_all := lw_g (lw_at lw_m1 156 rfl) rfl
theorem q172 : (Jvm.Cond.fieldLink "LeapJoinModel" (16 : Nat) "LeapJoinModel" "vs" "[I") ∈ lw_all := lw_g (lw_at lw_m1 157 rfl) rfl
theorem q173 : (Jvm.Cond.fieldLink "LeapJoinModel" (19 : Nat) "LeapJoinModel" "ws" "[I") ∈ lw_all := lw_g (lw_at lw_m1 158 rfl) rfl
theorem q174 : (Jvm.Cond.fieldLink "LeapJoinModel" (22 : Nat) "LeapJoinModel" "seen" "[Z") ∈ lw_all := lw_g (lw_at lw_m1 159 rfl) rfl
theorem q175 : (Jvm.Cond.lays "LeapJoinModel" "LeapJoinModel" "rows" "[I") ∈ lw_all := lw_g (lw_at lw_m1 160 rfl) rfl
theorem q176 : (Jvm.Cond.soleField "LeapJoinModel" "rows") ∈ lw_all := lw_g (lw_at lw_m1 161 rfl) rfl
theorem q177 : (Jvm.Cond.lays "LeapJoinModel" "LeapJoinModel" "many" "I") ∈ lw_all := lw_g (lw_at lw_m1 162 rfl) rfl
theorem q178 : (Jvm.Cond.soleField "LeapJoinModel" "many") ∈ lw_all := lw_g (lw_at lw_m1 163 rfl) rfl
theorem q179 : (Jvm.Cond.lays "LeapJoinModel" "LeapJoinModel" "rels" "[I") ∈ lw_all := lw_g (lw_at lw_m1 164 rfl) rfl
theorem q180 : (Jvm.Cond.soleField "LeapJoinModel" "rels") ∈ lw_all := lw_g (lw_at lw_m1 165 rfl) rfl
theorem q181 : (Jvm.Cond.lays "LeapJoinModel" "LeapJoinModel" "vs" "[I") ∈ lw_all := lw_g (lw_at lw_m1 166 rfl) rfl
theorem q182 : (Jvm.Cond.soleField "LeapJoinModel" "vs") ∈ lw_all := lw_g (lw_at lw_m1 167 rfl) rfl
theorem q183 : (Jvm.Cond.lays "LeapJoinModel" "LeapJoinModel" "ws" "[I") ∈ lw_all := lw_g (lw_at lw_m1 168 rfl) rfl
theorem q184 : (Jvm.Cond.soleField "LeapJoinModel" "ws") ∈ lw_all := lw_g (lw_at lw_m1 169 rfl) rfl
theorem q185 : (Jvm.Cond.lays "LeapJoinModel" "LeapJoinModel" "seen" "[Z") ∈ lw_all := lw_g (lw_at lw_m1 170 rfl) rfl
theorem q186 : (Jvm.Cond.soleField "LeapJoinModel" "seen") ∈ lw_all := lw_g (lw_at lw_m1 171 rfl) rfl
theorem q187 : (Jvm.Cond.superclass "LeapJoinModel" "java/lang/Object") ∈ lw_all := lw_g (lw_at lw_m1 172 rfl) rfl
theorem q191 : (Jvm.Cond.instanceMethod ({ cls := "LeapJoinModel", name := "pair", desc := "(IIIZ)Z" } : Jvm.MethodName)) ∈ lw_all := lw_g (lw_at lw_m1 176 rfl) rfl
theorem q192 : (Jvm.Cond.selects "LeapJoinModel" ({ cls := "LeapJoinModel", name := "pair", desc := "(IIIZ)Z" } : Jvm.MethodName) ({ cls := "LeapJoinModel", name := "pair", desc := "(IIIZ)Z" } : Jvm.MethodName)) ∈ lw_all := lw_g (lw_at lw_m1 177 rfl) rfl
theorem q193 : (Jvm.Cond.code ({ cls := "LeapJoinModel", name := "pair", desc := "(IIIZ)Z" } : Jvm.MethodName) prog_3_method_6_code (5 : Nat) (Option.some Jvm.ClassFile.FieldType.boolean)) ∈ lw_all := lw_g (lw_at lw_m1 178 rfl) rfl
theorem q194 : (Jvm.Cond.methodLink "LeapJoinModel" (26 : Nat) ({ cls := "LeapJoinModel", name := "relation", desc := "(I)Z" } : Jvm.MethodName)) ∈ lw_all := lw_g (lw_at lw_m1 179 rfl) rfl
theorem q195 : (Jvm.Cond.privateMethod ({ cls := "LeapJoinModel", name := "relation", desc := "(I)Z" } : Jvm.MethodName)) ∈ lw_tbl := lw_at lw_m1 180 rfl
theorem q196 : (Jvm.Cond.instanceMethod ({ cls := "LeapJoinModel", name := "relation", desc := "(I)Z" } : Jvm.MethodName)) ∈ lw_all := lw_g (lw_at lw_m1 181 rfl) rfl
theorem q197 : (Jvm.Cond.code ({ cls := "LeapJoinModel", name := "relation", desc := "(I)Z" } : Jvm.MethodName) prog_3_method_2_code (2 : Nat) (Option.some Jvm.ClassFile.FieldType.boolean)) ∈ lw_all := lw_g (lw_at lw_m1 182 rfl) rfl
theorem q198 : (Jvm.Cond.methodLink "LeapJoinModel" (30 : Nat) ({ cls := "LeapJoinModel", name := "thing", desc := "(I)Z" } : Jvm.MethodName)) ∈ lw_all := lw_g (lw_at lw_m1 183 rfl) rfl
theorem q199 : (Jvm.Cond.privateMethod ({ cls := "LeapJoinModel", name := "thing", desc := "(I)Z" } : Jvm.MethodName)) ∈ lw_tbl := lw_at lw_m1 184 rfl
theorem q200 : (Jvm.Cond.instanceMethod ({ cls := "LeapJoinModel", name := "thing", desc := "(I)Z" } : Jvm.MethodName)) ∈ lw_all := lw_g (lw_at lw_m1 185 rfl) rfl
theorem q201 : (Jvm.Cond.code ({ cls := "LeapJoinModel", name := "thing", desc := "(I)Z" } : Jvm.MethodName) prog_3_method_3_code (2 : Nat) (Option.some Jvm.ClassFile.FieldType.boolean)) ∈ lw_all := lw_g (lw_at lw_m1 186 rfl) rfl
theorem q203 : (Jvm.Cond.instanceMethod ({ cls := "LeapJoinModel", name := "size", desc := "(I)I" } : Jvm.MethodName)) ∈ lw_all := lw_g (lw_at lw_m1 188 rfl) rfl
theorem q204 : (Jvm.Cond.selects "LeapJoinModel" ({ cls := "LeapJoinModel", name := "size", desc := "(I)I" } : Jvm.MethodName) ({ cls := "LeapJoinModel", name := "size", desc := "(I)I" } : Jvm.MethodName)) ∈ lw_all := lw_g (lw_at lw_m1 189 rfl) rfl
theorem q205 : (Jvm.Cond.code ({ cls := "LeapJoinModel", name := "size", desc := "(I)I" } : Jvm.MethodName) prog_3_method_7_code (4 : Nat) (Option.some Jvm.ClassFile.FieldType.int)) ∈ lw_all := lw_g (lw_at lw_m1 190 rfl) rfl
theorem q206 : (Jvm.Cond.methodLink "LeapJoinModel" (33 : Nat) ({ cls := "LeapJoinModel", name := "in", desc := "(III)Z" } : Jvm.MethodName)) ∈ lw_all := lw_g (lw_at lw_m1 191 rfl) rfl
theorem q207 : (Jvm.Cond.privateMethod ({ cls := "LeapJoinModel", name := "in", desc := "(III)Z" } : Jvm.MethodName)) ∈ lw_tbl := lw_at lw_m1 192 rfl
theorem q208 : (Jvm.Cond.instanceMethod ({ cls := "LeapJoinModel", name := "in", desc := "(III)Z" } : Jvm.MethodName)) ∈ lw_all := lw_g (lw_at lw_m1 193 rfl) rfl
theorem q209 : (Jvm.Cond.code ({ cls := "LeapJoinModel", name := "in", desc := "(III)Z" } : Jvm.MethodName) prog_3_method_5_code (4 : Nat) (Option.some Jvm.ClassFile.FieldType.boolean)) ∈ lw_all := lw_g (lw_at lw_m1 194 rfl) rfl
theorem q211 : (Jvm.Cond.instanceMethod ({ cls := "LeapJoinModel", name := "atom", desc := "(III)I" } : Jvm.MethodName)) ∈ lw_all := lw_g (lw_at lw_m1 196 rfl) rfl
theorem q212 : (Jvm.Cond.selects "LeapJoinModel" ({ cls := "LeapJoinModel", name := "atom", desc := "(III)I" } : Jvm.MethodName) ({ cls := "LeapJoinModel", name := "atom", desc := "(III)I" } : Jvm.MethodName)) ∈ lw_all := lw_g (lw_at lw_m1 197 rfl) rfl
theorem q213 : (Jvm.Cond.code ({ cls := "LeapJoinModel", name := "atom", desc := "(III)I" } : Jvm.MethodName) prog_3_method_8_code (4 : Nat) (Option.some Jvm.ClassFile.FieldType.int)) ∈ lw_all := lw_g (lw_at lw_m1 198 rfl) rfl
theorem q214 : (Jvm.Cond.methodLink "LeapJoinModel" (37 : Nat) ({ cls := "LeapJoinModel", name := "variable", desc := "(I)Z" } : Jvm.MethodName)) ∈ lw_all := lw_g (lw_at lw_m1 199 rfl) rfl
theorem q215 : (Jvm.Cond.privateMethod ({ cls := "LeapJoinModel", name := "variable", desc := "(I)Z" } : Jvm.MethodName)) ∈ lw_tbl := lw_at lw_m1 200 rfl
theorem q216 : (Jvm.Cond.instanceMethod ({ cls := "LeapJoinModel", name := "variable", desc := "(I)Z" } : Jvm.MethodName)) ∈ lw_all := lw_g (lw_at lw_m1 201 rfl) rfl
theorem q217 : (Jvm.Cond.code ({ cls := "LeapJoinModel", name := "variable", desc := "(I)Z" } : Jvm.MethodName) prog_3_method_4_code (2 : Nat) (Option.some Jvm.ClassFile.FieldType.boolean)) ∈ lw_all := lw_g (lw_at lw_m1 202 rfl) rfl
theorem q219 : (Jvm.Cond.instanceMethod ({ cls := "LeapJoinModel", name := "drop", desc := "()I" } : Jvm.MethodName)) ∈ lw_all := lw_g (lw_at lw_m1 204 rfl) rfl
theorem q220 : (Jvm.Cond.selects "LeapJoinModel" ({ cls := "LeapJoinModel", name := "drop", desc := "()I" } : Jvm.MethodName) ({ cls := "LeapJoinModel", name := "drop", desc := "()I" } : Jvm.MethodName)) ∈ lw_all := lw_g (lw_at lw_m1 205 rfl) rfl
theorem q221 : (Jvm.Cond.code ({ cls := "LeapJoinModel", name := "drop", desc := "()I" } : Jvm.MethodName) prog_3_method_9_code (1 : Nat) (Option.some Jvm.ClassFile.FieldType.int)) ∈ lw_all := lw_g (lw_at lw_m1 206 rfl) rfl
theorem q223 : (Jvm.Cond.instanceMethod ({ cls := "LeapJoinModel", name := "count", desc := "()I" } : Jvm.MethodName)) ∈ lw_all := lw_g (lw_at lw_m1 208 rfl) rfl
theorem q224 : (Jvm.Cond.selects "LeapJoinModel" ({ cls := "LeapJoinModel", name := "count", desc := "()I" } : Jvm.MethodName) ({ cls := "LeapJoinModel", name := "count", desc := "()I" } : Jvm.MethodName)) ∈ lw_all := lw_g (lw_at lw_m1 209 rfl) rfl
theorem q225 : (Jvm.Cond.code ({ cls := "LeapJoinModel", name := "count", desc := "()I" } : Jvm.MethodName) prog_3_method_12_code (3 : Nat) (Option.some Jvm.ClassFile.FieldType.int)) ∈ lw_all := lw_g (lw_at lw_m1 210 rfl) rfl
theorem q226 : (Jvm.Cond.methodLink "LeapJoinModel" (48 : Nat) ({ cls := "LeapJoinModel", name := "isAnswer", desc := "(I)Z" } : Jvm.MethodName)) ∈ lw_all := lw_g (lw_at lw_m1 211 rfl) rfl
theorem q227 : (Jvm.Cond.privateMethod ({ cls := "LeapJoinModel", name := "isAnswer", desc := "(I)Z" } : Jvm.MethodName)) ∈ lw_tbl := lw_at lw_m1 212 rfl
theorem q228 : (Jvm.Cond.instanceMethod ({ cls := "LeapJoinModel", name := "isAnswer", desc := "(I)Z" } : Jvm.MethodName)) ∈ lw_all := lw_g (lw_at lw_m1 213 rfl) rfl
theorem q229 : (Jvm.Cond.code ({ cls := "LeapJoinModel", name := "isAnswer", desc := "(I)Z" } : Jvm.MethodName) prog_3_method_11_code (5 : Nat) (Option.some Jvm.ClassFile.FieldType.boolean)) ∈ lw_all := lw_g (lw_at lw_m1 214 rfl) rfl
theorem q230 : (Jvm.Cond.methodLink "LeapJoinModel" (44 : Nat) ({ cls := "LeapJoinModel", name := "of", desc := "(II)I" } : Jvm.MethodName)) ∈ lw_all := lw_g (lw_at lw_m1 215 rfl) rfl
theorem q231 : (Jvm.Cond.privateMethod ({ cls := "LeapJoinModel", name := "of", desc := "(II)I" } : Jvm.MethodName)) ∈ lw_tbl := lw_at lw_m1 216 rfl
theorem q232 : (Jvm.Cond.instanceMethod ({ cls := "LeapJoinModel", name := "of", desc := "(II)I" } : Jvm.MethodName)) ∈ lw_all := lw_g (lw_at lw_m1 217 rfl) rfl
theorem q233 : (Jvm.Cond.code ({ cls := "LeapJoinModel", name := "of", desc := "(II)I" } : Jvm.MethodName) prog_3_method_10_code (3 : Nat) (Option.some Jvm.ClassFile.FieldType.int)) ∈ lw_all := lw_g (lw_at lw_m1 218 rfl) rfl
theorem q235 : (Jvm.Cond.instanceMethod ({ cls := "LeapJoinModel", name := "answer", desc := "(I)I" } : Jvm.MethodName)) ∈ lw_all := lw_g (lw_at lw_m1 220 rfl) rfl
theorem q236 : (Jvm.Cond.selects "LeapJoinModel" ({ cls := "LeapJoinModel", name := "answer", desc := "(I)I" } : Jvm.MethodName) ({ cls := "LeapJoinModel", name := "answer", desc := "(I)I" } : Jvm.MethodName)) ∈ lw_all := lw_g (lw_at lw_m1 221 rfl) rfl
theorem q237 : (Jvm.Cond.code ({ cls := "LeapJoinModel", name := "answer", desc := "(I)I" } : Jvm.MethodName) prog_3_method_13_code (4 : Nat) (Option.some Jvm.ClassFile.FieldType.int)) ∈ lw_all := lw_g (lw_at lw_m1 222 rfl) rfl
theorem q239 : (Jvm.Cond.instanceMethod ({ cls := "LeapJoinModel", name := "seek", desc := "(I)I" } : Jvm.MethodName)) ∈ lw_all := lw_g (lw_at lw_m1 224 rfl) rfl
theorem q240 : (Jvm.Cond.selects "LeapJoinModel" ({ cls := "LeapJoinModel", name := "seek", desc := "(I)I" } : Jvm.MethodName) ({ cls := "LeapJoinModel", name := "seek", desc := "(I)I" } : Jvm.MethodName)) ∈ lw_all := lw_g (lw_at lw_m1 225 rfl) rfl
theorem q241 : (Jvm.Cond.code ({ cls := "LeapJoinModel", name := "seek", desc := "(I)I" } : Jvm.MethodName) prog_3_method_14_code (3 : Nat) (Option.some Jvm.ClassFile.FieldType.int)) ∈ lw_all := lw_g (lw_at lw_m1 226 rfl) rfl
theorem q243 : (Jvm.Cond.instanceMethod ({ cls := "LeapJoinModel", name := "values", desc := "(I)I" } : Jvm.MethodName)) ∈ lw_all := lw_g (lw_at lw_m1 228 rfl) rfl
theorem q244 : (Jvm.Cond.selects "LeapJoinModel" ({ cls := "LeapJoinModel", name := "values", desc := "(I)I" } : Jvm.MethodName) ({ cls := "LeapJoinModel", name := "values", desc := "(I)I" } : Jvm.MethodName)) ∈ lw_all := lw_g (lw_at lw_m1 229 rfl) rfl
theorem q245 : (Jvm.Cond.code ({ cls := "LeapJoinModel", name := "values", desc := "(I)I" } : Jvm.MethodName) prog_3_method_15_code (4 : Nat) (Option.some Jvm.ClassFile.FieldType.int)) ∈ lw_all := lw_g (lw_at lw_m1 230 rfl) rfl
theorem q247 : (Jvm.Cond.instanceMethod ({ cls := "LeapJoinModel", name := "countWith", desc := "(II)I" } : Jvm.MethodName)) ∈ lw_all := lw_g (lw_at lw_m1 232 rfl) rfl
theorem q248 : (Jvm.Cond.selects "LeapJoinModel" ({ cls := "LeapJoinModel", name := "countWith", desc := "(II)I" } : Jvm.MethodName) ({ cls := "LeapJoinModel", name := "countWith", desc := "(II)I" } : Jvm.MethodName)) ∈ lw_all := lw_g (lw_at lw_m1 233 rfl) rfl
theorem q249 : (Jvm.Cond.code ({ cls := "LeapJoinModel", name := "countWith", desc := "(II)I" } : Jvm.MethodName) prog_3_method_16_code (5 : Nat) (Option.some Jvm.ClassFile.FieldType.int)) ∈ lw_all := lw_g (lw_at lw_m1 234 rfl) rfl
theorem q251 : (Jvm.Cond.instanceMethod ({ cls := "LeapJoinModel", name := "holds", desc := "(I)Z" } : Jvm.MethodName)) ∈ lw_all := lw_g (lw_at lw_m1 236 rfl) rfl
theorem q252 : (Jvm.Cond.selects "LeapJoinModel" ({ cls := "LeapJoinModel", name := "holds", desc := "(I)Z" } : Jvm.MethodName) ({ cls := "LeapJoinModel", name := "holds", desc := "(I)Z" } : Jvm.MethodName)) ∈ lw_all := lw_g (lw_at lw_m1 237 rfl) rfl
theorem q253 : (Jvm.Cond.code ({ cls := "LeapJoinModel", name := "holds", desc := "(I)Z" } : Jvm.MethodName) prog_3_method_17_code (2 : Nat) (Option.some Jvm.ClassFile.FieldType.boolean)) ∈ lw_all := lw_g (lw_at lw_m1 238 rfl) rfl
theorem q255 : (Jvm.Cond.instanceMethod ({ cls := "LeapJoinModel", name := "pairs", desc := "(II)I" } : Jvm.MethodName)) ∈ lw_all := lw_g (lw_at lw_m2 0 rfl) rfl
theorem q256 : (Jvm.Cond.selects "LeapJoinModel" ({ cls := "LeapJoinModel", name := "pairs", desc := "(II)I" } : Jvm.MethodName) ({ cls := "LeapJoinModel", name := "pairs", desc := "(II)I" } : Jvm.MethodName)) ∈ lw_all := lw_g (lw_at lw_m2 1 rfl) rfl
theorem q257 : (Jvm.Cond.code ({ cls := "LeapJoinModel", name := "pairs", desc := "(II)I" } : Jvm.MethodName) prog_3_method_18_code (6 : Nat) (Option.some Jvm.ClassFile.FieldType.int)) ∈ lw_all := lw_g (lw_at lw_m2 2 rfl) rfl
theorem q259 : (Jvm.Cond.instanceMethod ({ cls := "LeapJoinModel", name := "loss", desc := "(III)I" } : Jvm.MethodName)) ∈ lw_all := lw_g (lw_at lw_m2 4 rfl) rfl
theorem q260 : (Jvm.Cond.selects "LeapJoinModel" ({ cls := "LeapJoinModel", name := "loss", desc := "(III)I" } : Jvm.MethodName) ({ cls := "LeapJoinModel", name := "loss", desc := "(III)I" } : Jvm.MethodName)) ∈ lw_all := lw_g (lw_at lw_m2 5 rfl) rfl
theorem q261 : (Jvm.Cond.code ({ cls := "LeapJoinModel", name := "loss", desc := "(III)I" } : Jvm.MethodName) prog_3_method_19_code (6 : Nat) (Option.some Jvm.ClassFile.FieldType.int)) ∈ lw_all := lw_g (lw_at lw_m2 6 rfl) rfl
theorem q262 : (Jvm.Cond.methodLink "LeapJoinModel" (51 : Nat) ({ cls := "LeapJoinModel", name := "count", desc := "()I" } : Jvm.MethodName)) ∈ lw_all := lw_g (lw_at lw_m2 7 rfl) rfl
theorem q263 : (Jvm.Cond.methodLink "LeapJoinModel" (55 : Nat) ({ cls := "LeapJoinModel", name := "pair", desc := "(IIIZ)Z" } : Jvm.MethodName)) ∈ lw_all := lw_g (lw_at lw_m2 8 rfl) rfl
theorem q265 : (Jvm.Cond.instanceMethod ({ cls := "LeapJoinModel", name := "partners", desc := "(III)I" } : Jvm.MethodName)) ∈ lw_all := lw_g (lw_at lw_m2 10 rfl) rfl
theorem q266 : (Jvm.Cond.selects "LeapJoinModel" ({ cls := "LeapJoinModel", name := "partners", desc := "(III)I" } : Jvm.MethodName) ({ cls := "LeapJoinModel", name := "partners", desc := "(III)I" } : Jvm.MethodName)) ∈ lw_all := lw_g (lw_at lw_m2 11 rfl) rfl
theorem q267 : (Jvm.Cond.code ({ cls := "LeapJoinModel", name := "partners", desc := "(III)I" } : Jvm.MethodName) prog_3_method_20_code (7 : Nat) (Option.some Jvm.ClassFile.FieldType.int)) ∈ lw_all := lw_g (lw_at lw_m2 12 rfl) rfl
theorem in_X1 : ∀ w ∈ wsX10, w ∈ lw_all := lw_in wsX10 [175, 177, 179, 181, 183, 185] (by decide +kernel) (by decide +kernel)
def RJ0 : String := "java/lang/Object"
abbrev cJ0_init : ByteArray := object_method_1_code
def yJ0_init : MethodName := ⟨RJ0, "<init>", "()V"⟩
theorem dJ0_init_0 : decode cJ0_init 0 = .ok (.return_, 1) := by decide +kernel
theorem q24 : (Jvm.Cond.instanceMethod ({ cls := "java/lang/Object", name := "<init>", desc := "()V" } : Jvm.MethodName)) ∈ lw_all := lw_g (lw_at lw_m1 9 rfl) rfl
theorem q25 : (Jvm.Cond.code ({ cls := "java/lang/Object", name := "<init>", desc := "()V" } : Jvm.MethodName) object_method_1_code (1 : Nat) (Option.none : Option Jvm.ClassFile.FieldType)) ∈ lw_all := lw_g (lw_at lw_m1 10 rfl) rfl
theorem q15 : (Jvm.Cond.initialized "LeapJoinLaw") ∈ lw_all := lw_g (lw_at lw_m1 0 rfl) rfl
theorem q18 : (Jvm.Cond.classLink "LeapJoinLaw" (7 : Nat) "LeapJoin") ∈ lw_all := lw_g (lw_at lw_m1 3 rfl) rfl
theorem q20 : (Jvm.Cond.methodLink "LeapJoinLaw" (9 : Nat) ({ cls := "LeapJoin", name := "<init>", desc := "()V" } : Jvm.MethodName)) ∈ lw_all := lw_g (lw_at lw_m1 5 rfl) rfl
theorem q53 : (Jvm.Cond.methodLink "LeapJoinLaw" (13 : Nat) ({ cls := "LeapJoin", name := "pair", desc := "(IIIZ)Z" } : Jvm.MethodName)) ∈ lw_all := lw_g (lw_at lw_m1 38 rfl) rfl
theorem q67 : (Jvm.Cond.methodLink "LeapJoinLaw" (18 : Nat) ({ cls := "LeapJoin", name := "size", desc := "(I)I" } : Jvm.MethodName)) ∈ lw_all := lw_g (lw_at lw_m1 52 rfl) rfl
theorem q74 : (Jvm.Cond.methodLink "LeapJoinLaw" (23 : Nat) ({ cls := "LeapJoin", name := "atom", desc := "(III)I" } : Jvm.MethodName)) ∈ lw_all := lw_g (lw_at lw_m1 59 rfl) rfl
theorem q81 : (Jvm.Cond.methodLink "LeapJoinLaw" (28 : Nat) ({ cls := "LeapJoin", name := "drop", desc := "()I" } : Jvm.MethodName)) ∈ lw_all := lw_g (lw_at lw_m1 66 rfl) rfl
theorem q85 : (Jvm.Cond.methodLink "LeapJoinLaw" (33 : Nat) ({ cls := "LeapJoin", name := "count", desc := "()I" } : Jvm.MethodName)) ∈ lw_all := lw_g (lw_at lw_m1 70 rfl) rfl
theorem q130 : (Jvm.Cond.methodLink "LeapJoinLaw" (37 : Nat) ({ cls := "LeapJoin", name := "answer", desc := "(I)I" } : Jvm.MethodName)) ∈ lw_all := lw_g (lw_at lw_m1 115 rfl) rfl
theorem q134 : (Jvm.Cond.methodLink "LeapJoinLaw" (41 : Nat) ({ cls := "LeapJoin", name := "seek", desc := "(I)I" } : Jvm.MethodName)) ∈ lw_all := lw_g (lw_at lw_m1 119 rfl) rfl
theorem q138 : (Jvm.Cond.methodLink "LeapJoinLaw" (45 : Nat) ({ cls := "LeapJoin", name := "values", desc := "(I)I" } : Jvm.MethodName)) ∈ lw_all := lw_g (lw_at lw_m1 123 rfl) rfl
theorem q142 : (Jvm.Cond.methodLink "LeapJoinLaw" (49 : Nat) ({ cls := "LeapJoin", name := "countWith", desc := "(II)I" } : Jvm.MethodName)) ∈ lw_all := lw_g (lw_at lw_m1 127 rfl) rfl
theorem q146 : (Jvm.Cond.methodLink "LeapJoinLaw" (54 : Nat) ({ cls := "LeapJoin", name := "holds", desc := "(I)Z" } : Jvm.MethodName)) ∈ lw_all := lw_g (lw_at lw_m1 131 rfl) rfl
theorem q150 : (Jvm.Cond.methodLink "LeapJoinLaw" (59 : Nat) ({ cls := "LeapJoin", name := "pairs", desc := "(II)I" } : Jvm.MethodName)) ∈ lw_all := lw_g (lw_at lw_m1 135 rfl) rfl
theorem q154 : (Jvm.Cond.methodLink "LeapJoinLaw" (63 : Nat) ({ cls := "LeapJoin", name := "loss", desc := "(III)I" } : Jvm.MethodName)) ∈ lw_all := lw_g (lw_at lw_m1 139 rfl) rfl
theorem q159 : (Jvm.Cond.methodLink "LeapJoinLaw" (67 : Nat) ({ cls := "LeapJoin", name := "partners", desc := "(III)I" } : Jvm.MethodName)) ∈ lw_all := lw_g (lw_at lw_m1 144 rfl) rfl
theorem q163 : (Jvm.Cond.classLink "LeapJoinLaw" (10 : Nat) "LeapJoinModel") ∈ lw_all := lw_g (lw_at lw_m1 148 rfl) rfl
theorem q165 : (Jvm.Cond.methodLink "LeapJoinLaw" (12 : Nat) ({ cls := "LeapJoinModel", name := "<init>", desc := "()V" } : Jvm.MethodName)) ∈ lw_all := lw_g (lw_at lw_m1 150 rfl) rfl
theorem q190 : (Jvm.Cond.methodLink "LeapJoinLaw" (17 : Nat) ({ cls := "LeapJoinModel", name := "pair", desc := "(IIIZ)Z" } : Jvm.MethodName)) ∈ lw_all := lw_g (lw_at lw_m1 175 rfl) rfl
theorem q202 : (Jvm.Cond.methodLink "LeapJoinLaw" (22 : Nat) ({ cls := "LeapJoinModel", name := "size", desc := "(I)I" } : Jvm.MethodName)) ∈ lw_all := lw_g (lw_at lw_m1 187 rfl) rfl
theorem q210 : (Jvm.Cond.methodLink "LeapJoinLaw" (27 : Nat) ({ cls := "LeapJoinModel", name := "atom", desc := "(III)I" } : Jvm.MethodName)) ∈ lw_all := lw_g (lw_at lw_m1 195 rfl) rfl
theorem q218 : (Jvm.Cond.methodLink "LeapJoinLaw" (32 : Nat) ({ cls := "LeapJoinModel", name := "drop", desc := "()I" } : Jvm.MethodName)) ∈ lw_all := lw_g (lw_at lw_m1 203 rfl) rfl
theorem q222 : (Jvm.Cond.methodLink "LeapJoinLaw" (36 : Nat) ({ cls := "LeapJoinModel", name := "count", desc := "()I" } : Jvm.MethodName)) ∈ lw_all := lw_g (lw_at lw_m1 207 rfl) rfl
theorem q234 : (Jvm.Cond.methodLink "LeapJoinLaw" (40 : Nat) ({ cls := "LeapJoinModel", name := "answer", desc := "(I)I" } : Jvm.MethodName)) ∈ lw_all := lw_g (lw_at lw_m1 219 rfl) rfl
theorem q238 : (Jvm.Cond.methodLink "LeapJoinLaw" (44 : Nat) ({ cls := "LeapJoinModel", name := "seek", desc := "(I)I" } : Jvm.MethodName)) ∈ lw_all := lw_g (lw_at lw_m1 223 rfl) rfl
theorem q242 : (Jvm.Cond.methodLink "LeapJoinLaw" (48 : Nat) ({ cls := "LeapJoinModel", name := "values", desc := "(I)I" } : Jvm.MethodName)) ∈ lw_all := lw_g (lw_at lw_m1 227 rfl) rfl
theorem q246 : (Jvm.Cond.methodLink "LeapJoinLaw" (53 : Nat) ({ cls := "LeapJoinModel", name := "countWith", desc := "(II)I" } : Jvm.MethodName)) ∈ lw_all := lw_g (lw_at lw_m1 231 rfl) rfl
theorem q250 : (Jvm.Cond.methodLink "LeapJoinLaw" (58 : Nat) ({ cls := "LeapJoinModel", name := "holds", desc := "(I)Z" } : Jvm.MethodName)) ∈ lw_all := lw_g (lw_at lw_m1 235 rfl) rfl
theorem q254 : (Jvm.Cond.methodLink "LeapJoinLaw" (62 : Nat) ({ cls := "LeapJoinModel", name := "pairs", desc := "(II)I" } : Jvm.MethodName)) ∈ lw_all := lw_g (lw_at lw_m1 239 rfl) rfl
theorem q258 : (Jvm.Cond.methodLink "LeapJoinLaw" (66 : Nat) ({ cls := "LeapJoinModel", name := "loss", desc := "(III)I" } : Jvm.MethodName)) ∈ lw_all := lw_g (lw_at lw_m2 3 rfl) rfl
theorem q264 : (Jvm.Cond.methodLink "LeapJoinLaw" (70 : Nat) ({ cls := "LeapJoinModel", name := "partners", desc := "(III)I" } : Jvm.MethodName)) ∈ lw_all := lw_g (lw_at lw_m2 9 rfl) rfl
theorem q51 : (Jvm.Cond.arrayClass Jvm.ClassFile.FieldType.short) ∈ lw_all := lw_g (lw_at lw_m1 36 rfl) rfl
theorem q52 : (Jvm.Cond.arrayClass Jvm.ClassFile.FieldType.byte) ∈ lw_all := lw_g (lw_at lw_m1 37 rfl) rfl
theorem q188 : (Jvm.Cond.arrayClass Jvm.ClassFile.FieldType.int) ∈ lw_all := lw_g (lw_at lw_m1 173 rfl) rfl
theorem q189 : (Jvm.Cond.arrayClass Jvm.ClassFile.FieldType.boolean) ∈ lw_all := lw_g (lw_at lw_m1 174 rfl) rfl
end
section
set_option maxRecDepth 100000
/-! numbers: Int32 rows over Nat (nI), Booleans (bI), branches and arithmetic over them -/
abbrev rmK (k : Nat) : Room := { frames := k, cells := 0, slots := 0, locals := 30 * k }
def bI (b : Bool) : Int32 := if b then 1 else 0
theorem bI_0 {b : Bool} (h : bI b = 0) : b = false := by
  cases b
  · rfl
  · exact absurd h (by decide)
theorem bI_n {b : Bool} (h : ¬ bI b = 0) : b = true := by
  cases b
  · exact absurd rfl h
  · rfl
theorem bI_z (b : Bool) : narrow .boolean (.int (bI b)) = .int (bI b) := by cases b <;> rfl
theorem bI_inj {x y : Bool} (h : bI x = bI y) : x = y := by
  cases x <;> cases y <;> first | rfl | exact absurd h (by decide)
theorem nm_or (a b : Nat) : nI a ||| nI b = nI (a ||| b) := by
  apply Int32.toBitVec_inj.1
  show BitVec.ofNat 32 a ||| BitVec.ofNat 32 b = BitVec.ofNat 32 (a ||| b)
  apply BitVec.eq_of_getLsbD_eq
  intro i hi
  simp [hi]
theorem nm_and (a b : Nat) : nI a &&& nI b = nI (a &&& b) := by
  apply Int32.toBitVec_inj.1
  show BitVec.ofNat 32 a &&& BitVec.ofNat 32 b = BitVec.ofNat 32 (a &&& b)
  apply BitVec.eq_of_getLsbD_eq
  intro i hi
  simp [hi]
theorem nm_sl : ∀ n, n < 32 → ((nI n &&& 31).toBitVec.smod 32).toNat = n := by decide +kernel
theorem nm_shl {x y : Nat} (hy : y < 32) (h : x * 2 ^ y < 2 ^ 32) : nI x <<< (nI y &&& 31) = nI (x * 2 ^ y) := pk_shlN (nI y &&& 31) y (nm_sl y hy) h
theorem nm_shr {x y : Nat} (hy : y < 32) (h : x < 2 ^ 31) : nI x >>> (nI y &&& 31) = nI (x / 2 ^ y) := pk_shrN h (nI y &&& 31) y (nm_sl y hy)
theorem nm_and1 {x : Nat} (h : x < 2 ^ 32) : nI x &&& nI 1 = nI (x % 2) := pk_andN h 1 (by decide +kernel)
theorem nm_and7 {x : Nat} (h : x < 2 ^ 32) : nI x &&& nI 7 = nI (x % 8) := pk_andN h 3 (by decide +kernel)
theorem nm_and15 (x : Int32) : ∃ j : Nat, j < 16 ∧ x &&& nI 15 = nI j := pk_andE x 4 (by decide +kernel)
theorem nm_b : ∀ x, x < 128 → (nI x).toInt8.toInt32 = nI x := by decide +kernel
theorem nm_bv {x : Nat} (h : x < 128) : vp_nar .byte (nI x) = nI x := nm_b x h
theorem nm_s : ∀ x, x < 256 → (nI x).toInt16.toInt32 = nI x := by decide +kernel
theorem nm_sv {x : Nat} (h : x < 256) : vp_nar .short (nI x) = nI x := nm_s x h
/-- a bit taken out of a byte -/
def clr (x y : Nat) : Nat := x &&& (255 ^^^ 2 ^ y)
def setb (x y : Nat) : Nat := x ||| 2 ^ y
theorem nm_clr : ∀ y, y < 8 → ∀ x, x < 256 → nI x &&& (nI (2 ^ y) ^^^ (-1)) = nI (clr x y) := by decide +kernel
theorem clr_lt {x y : Nat} (h : x < 256) : clr x y < 256 := Nat.lt_of_le_of_lt Nat.and_le_left h
theorem setb_lt {x y : Nat} (h : x < 256) (hy : y < 8) : setb x y < 256 := by
  have h2 : (2 : Nat) ^ y < 2 ^ 8 := Nat.pow_lt_pow_right (by decide) hy
  exact Nat.or_lt_two_pow (n := 8) h h2
theorem setb_bit (x y z : Nat) : (setb x y).testBit z = (x.testBit z || decide (y = z)) := by
  unfold setb
  rw [Nat.testBit_or, Nat.testBit_two_pow]
theorem clr_bit {x y z : Nat} (hz : z < 8) : (clr x y).testBit z = (x.testBit z && !decide (y = z)) := by
  unfold clr
  have h255 : (255 : Nat).testBit z = true := (by decide : ∀ z, z < 8 → (255 : Nat).testBit z = true) z hz
  rw [Nat.testBit_and, Nat.testBit_xor, Nat.testBit_two_pow, h255]
  simp
theorem bit_div (w y : Nat) : w / 2 ^ y % 2 = (w.testBit y).toNat := by
  rw [Nat.testBit_eq_decide_div_mod_eq]
  rcases Nat.mod_two_eq_zero_or_one (w / 2 ^ y) with h | h <;> simp [h]
theorem byte_ext {x y : Nat} (hx : x < 256) (hy : y < 256) (h : ∀ i, i < 8 → x.testBit i = y.testBit i) : x = y := by
  apply Nat.eq_of_testBit_eq
  intro i
  rcases Nat.lt_or_ge i 8 with q | q
  · exact h i q
  · have hp : (256 : Nat) ≤ 2 ^ i := Nat.pow_le_pow_right (n := 2) (by decide) q
    rw [Nat.testBit_lt_two_pow (by omega), Nat.testBit_lt_two_pow (by omega)]
/-- a parameter in its range -/
def inR (p : Int32) (k : Nat) : Bool := !(decide (p < 0)) && !(decide (nI k ≤ p))
theorem inR_t {p : Int32} {k : Nat} (hk : k < 2 ^ 31) (h : inR p k = true) : ∃ j : Nat, j < k ∧ p = nI j := by
  unfold inR at h
  simp only [Bool.and_eq_true, Bool.not_eq_true', decide_eq_false_iff_not] at h
  rcases pk_ix p hk with q | q | q
  · exact absurd q h.1
  · exact absurd q h.2
  · exact q
theorem inR_n {j k : Nat} (hj : j < 2 ^ 31) (hk : k < 2 ^ 31) : inR (nI j) k = decide (j < k) := by
  unfold inR
  have h1 : ¬ nI j < 0 := nI_pos hj
  by_cases h : j < k
  · have h2 : ¬ nI k ≤ nI j := by rw [nI_leI hk hj]; omega
    simp [h1, h2, h]
  · have h2 : nI k ≤ nI j := by rw [nI_leI hk hj]; omega
    simp [h2, h]
theorem inR_neg {p : Int32} {k : Nat} (h : p < 0) : inR p k = false := by simp [inR, h]
theorem inR_big {p : Int32} {k : Nat} (h : nI k ≤ p) : inR p k = false := by simp [inR, h]
theorem inR_in {p : Int32} {k : Nat} (h : ¬ p < 0) (h2 : ¬ nI k ≤ p) : inR p k = true := by simp [inR, h, h2]
theorem nm_lt1 {p : Int32} {k : Nat} (hk : k + 1 < 2 ^ 31) : nI k < p ↔ nI (k + 1) ≤ p := by
  rw [Int32.lt_iff_toInt_lt, Int32.le_iff_toInt_le, nI_toInt (by omega), nI_toInt hk]
  omega
section Nums
variable {p : Program} {l : Launch} {e : Env} {R : Room} {s : State} {m : MethodId} {args : Array Value} {below : List Frame} {meth : Method} {c : Code} {H : Heap} {locs : List Loc} {cells slots : Nat} {Q : State → Prop} {cc : ByteArray} {pc nL : Nat} {ls : Array Slot} {rest : List Value} {own : String} {Ts : List Cond}
theorem n_top {x y : Int32} (h : x = y) (k : W p l e R s m args below meth c H locs cells slots Q (F0 m pc ls (.int y :: rest))) : W p l e R s m args below meth c H locs cells slots Q (F0 m pc ls (.int x :: rest)) := by
  subst h; exact k
theorem n_iadd (S : CallFix p m c cc nL s args Ts own) {x y : Nat} (hdg : decode cc pc = .ok (.iadd, 1)) (k : W p l e R s m args below meth c H locs cells slots Q (F0 m (pc + 1) ls (.int (nI (x + y)) :: rest))) : W p l e R s m args below meth c H locs cells slots Q (F0 m pc ls (.int (nI y) :: .int (nI x) :: rest)) :=
  lv_iadd S.1 S.2.1 hdg (n_top (nI_add x y) k)
theorem n_imul (S : CallFix p m c cc nL s args Ts own) {x y : Nat} (hdg : decode cc pc = .ok (.imul, 1)) (k : W p l e R s m args below meth c H locs cells slots Q (F0 m (pc + 1) ls (.int (nI (x * y)) :: rest))) : W p l e R s m args below meth c H locs cells slots Q (F0 m pc ls (.int (nI y) :: .int (nI x) :: rest)) :=
  lv_imul S.1 S.2.1 hdg (n_top (pk_mul x y) k)
theorem n_isub (S : CallFix p m c cc nL s args Ts own) {x y : Nat} (h : y ≤ x) (hdg : decode cc pc = .ok (.isub, 1)) (k : W p l e R s m args below meth c H locs cells slots Q (F0 m (pc + 1) ls (.int (nI (x - y)) :: rest))) : W p l e R s m args below meth c H locs cells slots Q (F0 m pc ls (.int (nI y) :: .int (nI x) :: rest)) :=
  lv_isub S.1 S.2.1 hdg (n_top (pk_sub h) k)
theorem n_ior (S : CallFix p m c cc nL s args Ts own) {x y : Nat} (hdg : decode cc pc = .ok (.ior, 1)) (k : W p l e R s m args below meth c H locs cells slots Q (F0 m (pc + 1) ls (.int (nI (x ||| y)) :: rest))) : W p l e R s m args below meth c H locs cells slots Q (F0 m pc ls (.int (nI y) :: .int (nI x) :: rest)) :=
  lv_ior S.1 S.2.1 hdg (n_top (nm_or x y) k)
theorem n_ishl1 (S : CallFix p m c cc nL s args Ts own) {y : Nat} (h : y < 31) (hdg : decode cc pc = .ok (.ishl, 1)) (k : W p l e R s m args below meth c H locs cells slots Q (F0 m (pc + 1) ls (.int (nI (2 ^ y)) :: rest))) : W p l e R s m args below meth c H locs cells slots Q (F0 m pc ls (.int (nI y) :: .int (nI 1) :: rest)) :=
  lv_ishl S.1 S.2.1 hdg (n_top (by
    have h2 : (2 : Nat) ^ y < 2 ^ 32 := Nat.pow_lt_pow_right (by decide) (by omega)
    rw [nm_shl (by omega) (by omega), Nat.one_mul]) k)
theorem n_ishr (S : CallFix p m c cc nL s args Ts own) {x y : Nat} (h : y < 32) (hx : x < 2 ^ 31) (hdg : decode cc pc = .ok (.ishr, 1)) (k : W p l e R s m args below meth c H locs cells slots Q (F0 m (pc + 1) ls (.int (nI (x / 2 ^ y)) :: rest))) : W p l e R s m args below meth c H locs cells slots Q (F0 m pc ls (.int (nI y) :: .int (nI x) :: rest)) :=
  lv_ishr S.1 S.2.1 hdg (n_top (nm_shr h hx) k)
theorem n_iand1 (S : CallFix p m c cc nL s args Ts own) {x : Nat} (h : x < 2 ^ 32) (hdg : decode cc pc = .ok (.iand, 1)) (k : W p l e R s m args below meth c H locs cells slots Q (F0 m (pc + 1) ls (.int (nI (x % 2)) :: rest))) : W p l e R s m args below meth c H locs cells slots Q (F0 m pc ls (.int (nI 1) :: .int (nI x) :: rest)) :=
  lv_iand S.1 S.2.1 hdg (n_top (nm_and1 h) k)
theorem n_iand7 (S : CallFix p m c cc nL s args Ts own) {x : Nat} (h : x < 2 ^ 32) (hdg : decode cc pc = .ok (.iand, 1)) (k : W p l e R s m args below meth c H locs cells slots Q (F0 m (pc + 1) ls (.int (nI (x % 8)) :: rest))) : W p l e R s m args below meth c H locs cells slots Q (F0 m pc ls (.int (nI 7) :: .int (nI x) :: rest)) :=
  lv_iand S.1 S.2.1 hdg (n_top (nm_and7 h) k)
theorem n_idiv (S : CallFix p m c cc nL s args Ts own) {x y : Nat} (hx : x < 2 ^ 31) (h0 : 0 < y) (hy : y < 2 ^ 31) (hdg : decode cc pc = .ok (.idiv, 1)) (k : W p l e R s m args below meth c H locs cells slots Q (F0 m (pc + 1) ls (.int (nI (x / y)) :: rest))) : W p l e R s m args below meth c H locs cells slots Q (F0 m pc ls (.int (nI y) :: .int (nI x) :: rest)) :=
  lv_idiv S.1 S.2.1 hdg (nI_ne0 h0 hy) (n_top (pk_div hx h0 hy) k)
theorem n_irem (S : CallFix p m c cc nL s args Ts own) {x y : Nat} (hx : x < 2 ^ 31) (h0 : 0 < y) (hy : y < 2 ^ 31) (hdg : decode cc pc = .ok (.irem, 1)) (k : W p l e R s m args below meth c H locs cells slots Q (F0 m (pc + 1) ls (.int (nI (x % y)) :: rest))) : W p l e R s m args below meth c H locs cells slots Q (F0 m pc ls (.int (nI y) :: .int (nI x) :: rest)) :=
  lv_irem S.1 S.2.1 hdg (nI_ne0 h0 hy) (n_top (pk_rem hx h0 hy) k)
theorem n_ge (S : CallFix p m c cc nL s args Ts own) {x y : Nat} {off : Int} {tgt : Nat} (hdg : decode cc pc = .ok (.if_icmp .ge off, 3)) (ht : (pc : Int) + off = (tgt : Int)) (kt : y ≤ x → W p l e R s m args below meth c H locs cells slots Q (F0 m tgt ls rest)) (kf : x < y → W p l e R s m args below meth c H locs cells slots Q (F0 m (pc + 3) ls rest)) (hx : x < 2 ^ 31 := by omega) (hy : y < 2 ^ 31 := by omega) : W p l e R s m args below meth c H locs cells slots Q (F0 m pc ls (.int (nI y) :: .int (nI x) :: rest)) :=
  lv_icmp_ge S.1 S.2.1 hdg ht (fun h => kt ((nI_leI hy hx).mp h)) (fun h => kf (Nat.lt_of_not_le (fun h2 => h ((nI_leI hy hx).mpr h2))))
theorem n_lt (S : CallFix p m c cc nL s args Ts own) {x y : Nat} {off : Int} {tgt : Nat} (hdg : decode cc pc = .ok (.if_icmp .lt off, 3)) (ht : (pc : Int) + off = (tgt : Int)) (kt : x < y → W p l e R s m args below meth c H locs cells slots Q (F0 m tgt ls rest)) (kf : y ≤ x → W p l e R s m args below meth c H locs cells slots Q (F0 m (pc + 3) ls rest)) (hx : x < 2 ^ 31 := by omega) (hy : y < 2 ^ 31 := by omega) : W p l e R s m args below meth c H locs cells slots Q (F0 m pc ls (.int (nI y) :: .int (nI x) :: rest)) :=
  lv_icmp_lt S.1 S.2.1 hdg ht (fun h => kt ((nI_ltI hx hy).mp h)) (fun h => kf (Nat.le_of_not_lt (fun h2 => h ((nI_ltI hx hy).mpr h2))))
theorem n_gt (S : CallFix p m c cc nL s args Ts own) {x y : Nat} {off : Int} {tgt : Nat} (hdg : decode cc pc = .ok (.if_icmp .gt off, 3)) (ht : (pc : Int) + off = (tgt : Int)) (kt : y < x → W p l e R s m args below meth c H locs cells slots Q (F0 m tgt ls rest)) (kf : x ≤ y → W p l e R s m args below meth c H locs cells slots Q (F0 m (pc + 3) ls rest)) (hx : x < 2 ^ 31 := by omega) (hy : y < 2 ^ 31 := by omega) : W p l e R s m args below meth c H locs cells slots Q (F0 m pc ls (.int (nI y) :: .int (nI x) :: rest)) :=
  lv_icmp_gt S.1 S.2.1 hdg ht (fun h => kt ((nI_ltI hy hx).mp h)) (fun h => kf (Nat.le_of_not_lt (fun h2 => h ((nI_ltI hy hx).mpr h2))))
theorem n_le (S : CallFix p m c cc nL s args Ts own) {x y : Nat} {off : Int} {tgt : Nat} (hdg : decode cc pc = .ok (.if_icmp .le off, 3)) (ht : (pc : Int) + off = (tgt : Int)) (kt : x ≤ y → W p l e R s m args below meth c H locs cells slots Q (F0 m tgt ls rest)) (kf : y < x → W p l e R s m args below meth c H locs cells slots Q (F0 m (pc + 3) ls rest)) (hx : x < 2 ^ 31 := by omega) (hy : y < 2 ^ 31 := by omega) : W p l e R s m args below meth c H locs cells slots Q (F0 m pc ls (.int (nI y) :: .int (nI x) :: rest)) :=
  lv_icmp_le S.1 S.2.1 hdg ht (fun h => kt ((nI_leI hx hy).mp h)) (fun h => kf (Nat.lt_of_not_le (fun h2 => h ((nI_leI hx hy).mpr h2))))
theorem n_eq (S : CallFix p m c cc nL s args Ts own) {x y : Nat} {off : Int} {tgt : Nat} (hdg : decode cc pc = .ok (.if_icmp .eq off, 3)) (ht : (pc : Int) + off = (tgt : Int)) (kt : x = y → W p l e R s m args below meth c H locs cells slots Q (F0 m tgt ls rest)) (kf : x ≠ y → W p l e R s m args below meth c H locs cells slots Q (F0 m (pc + 3) ls rest)) (hx : x < 2 ^ 31 := by omega) (hy : y < 2 ^ 31 := by omega) : W p l e R s m args below meth c H locs cells slots Q (F0 m pc ls (.int (nI y) :: .int (nI x) :: rest)) :=
  lv_icmp_eq S.1 S.2.1 hdg ht (fun h => kt ((nI_eq hx hy).mp h)) (fun h => kf (fun h2 => h ((nI_eq hx hy).mpr h2)))
theorem n_ne (S : CallFix p m c cc nL s args Ts own) {x y : Nat} {off : Int} {tgt : Nat} (hdg : decode cc pc = .ok (.if_icmp .ne off, 3)) (ht : (pc : Int) + off = (tgt : Int)) (kt : x ≠ y → W p l e R s m args below meth c H locs cells slots Q (F0 m tgt ls rest)) (kf : x = y → W p l e R s m args below meth c H locs cells slots Q (F0 m (pc + 3) ls rest)) (hx : x < 2 ^ 31 := by omega) (hy : y < 2 ^ 31 := by omega) : W p l e R s m args below meth c H locs cells slots Q (F0 m pc ls (.int (nI y) :: .int (nI x) :: rest)) :=
  lv_icmp_ne S.1 S.2.1 hdg ht (fun h => kt (fun h2 => h ((nI_eq hx hy).mpr h2))) (fun h => kf ((nI_eq hx hy).mp h))
theorem z_eq (S : CallFix p m c cc nL s args Ts own) {b : Bool} {off : Int} {tgt : Nat} (hdg : decode cc pc = .ok (.ifCond .eq off, 3)) (ht : (pc : Int) + off = (tgt : Int)) (kt : b = false → W p l e R s m args below meth c H locs cells slots Q (F0 m tgt ls rest)) (kf : b = true → W p l e R s m args below meth c H locs cells slots Q (F0 m (pc + 3) ls rest)) : W p l e R s m args below meth c H locs cells slots Q (F0 m pc ls (.int (bI b) :: rest)) :=
  lv_if_eq S.1 S.2.1 hdg ht (fun h => kt (bI_0 h)) (fun h => kf (bI_n h))
theorem z_ne (S : CallFix p m c cc nL s args Ts own) {b : Bool} {off : Int} {tgt : Nat} (hdg : decode cc pc = .ok (.ifCond .ne off, 3)) (ht : (pc : Int) + off = (tgt : Int)) (kt : b = true → W p l e R s m args below meth c H locs cells slots Q (F0 m tgt ls rest)) (kf : b = false → W p l e R s m args below meth c H locs cells slots Q (F0 m (pc + 3) ls rest)) : W p l e R s m args below meth c H locs cells slots Q (F0 m pc ls (.int (bI b) :: rest)) :=
  lv_if_ne S.1 S.2.1 hdg ht (fun h => kt (bI_n h)) (fun h => kf (by cases b <;> simp_all [bI]))
theorem n_ifeq (S : CallFix p m c cc nL s args Ts own) {x : Nat} {off : Int} {tgt : Nat} (hdg : decode cc pc = .ok (.ifCond .eq off, 3)) (ht : (pc : Int) + off = (tgt : Int)) (kt : x = 0 → W p l e R s m args below meth c H locs cells slots Q (F0 m tgt ls rest)) (kf : 0 < x → W p l e R s m args below meth c H locs cells slots Q (F0 m (pc + 3) ls rest)) (hx : x < 2 ^ 31 := by omega) : W p l e R s m args below meth c H locs cells slots Q (F0 m pc ls (.int (nI x) :: rest)) :=
  lv_if_eq S.1 S.2.1 hdg ht (fun h => kt ((nI_eq hx (by decide)).mp (h.trans nI_0.symm))) (fun h => kf (by
    rcases Nat.eq_zero_or_pos x with q | q
    · exact absurd (by rw [q]; exact nI_0) h
    · exact q))
theorem n_ifne (S : CallFix p m c cc nL s args Ts own) {x : Nat} {off : Int} {tgt : Nat} (hdg : decode cc pc = .ok (.ifCond .ne off, 3)) (ht : (pc : Int) + off = (tgt : Int)) (kt : 0 < x → W p l e R s m args below meth c H locs cells slots Q (F0 m tgt ls rest)) (kf : x = 0 → W p l e R s m args below meth c H locs cells slots Q (F0 m (pc + 3) ls rest)) (hx : x < 2 ^ 31 := by omega) : W p l e R s m args below meth c H locs cells slots Q (F0 m pc ls (.int (nI x) :: rest)) :=
  lv_if_ne S.1 S.2.1 hdg ht (fun h => kt (by
    rcases Nat.eq_zero_or_pos x with q | q
    · exact absurd (by rw [q]; exact nI_0) h
    · exact q)) (fun h => kf ((nI_eq hx (by decide)).mp (h.trans nI_0.symm)))
theorem n_iinc (S : CallFix p m c cc nL s args Ts own) {i k x : Nat} {lv lv' : List (Nat × Value)} (hdg : decode cc pc = .ok (.iinc i 1, 3)) (h : lv_has ls nL lv) (hk : lv[k]? = some (i, .int (nI x))) (hn : i < nL) (hl : (i, Value.int (nI (x + 1))) :: lv.filter (fun q => !(q.1 == i) && !(q.1 + 1 == i && q.2.category == 2)) = lv')
    (kk : ∀ ls' : Array Slot, lv_has ls' nL lv' → W p l e R s m args below meth c H locs cells slots Q (F0 m (pc + 3) ls' rest)) : W p l e R s m args below meth c H locs cells slots Q (F0 m pc ls rest) :=
  lv_iinc (v := nI (x + 1)) (k := k) S.1 S.2.1 hdg h hk (nI_1 x) hn hl kk
/-- a loop: an invariant and a measure that falls -/
theorem loopW {α : Type} (I : α → Heap → List Loc → Array Slot → Prop) (μ : α → Nat)
    (step : ∀ (x : α) (H : Heap) (locs : List Loc) (ls : Array Slot), I x H locs ls → (∀ (x' : α) (H' : Heap) (locs' : List Loc) (ls' : Array Slot), I x' H' locs' ls' → μ x' < μ x → W p l e R s m args below meth c H' locs' cells slots Q (F0 m pc ls' [])) → W p l e R s m args below meth c H locs cells slots Q (F0 m pc ls [])) :
    ∀ (x : α) (H : Heap) (locs : List Loc) (ls : Array Slot), I x H locs ls → W p l e R s m args below meth c H locs cells slots Q (F0 m pc ls []) := by
  have key : ∀ (k : Nat) (x : α) (H : Heap) (locs : List Loc) (ls : Array Slot), μ x < k → I x H locs ls → W p l e R s m args below meth c H locs cells slots Q (F0 m pc ls []) := by
    intro k
    induction k with
    | zero => intro x H locs ls h; exact absurd h (Nat.not_lt_zero _)
    | succ k ih => intro x H locs ls h hI; exact step x H locs ls hI (fun x' H' locs' ls' hI' hlt => ih x' H' locs' ls' (by omega) hI')
  intro x H locs ls hI
  exact key (μ x + 1) x H locs ls (Nat.lt_succ_self _) hI
/-- a loop that leaves the heap alone -/
theorem loopR {α : Type} (I : α → Array Slot → Prop) (μ : α → Nat)
    (step : ∀ (x : α) (ls : Array Slot), I x ls → (∀ (x' : α) (ls' : Array Slot), I x' ls' → μ x' < μ x → W p l e R s m args below meth c H locs cells slots Q (F0 m pc ls' [])) → W p l e R s m args below meth c H locs cells slots Q (F0 m pc ls [])) :
    ∀ (x : α) (ls : Array Slot), I x ls → W p l e R s m args below meth c H locs cells slots Q (F0 m pc ls []) := by
  have key : ∀ (k : Nat) (x : α) (ls : Array Slot), μ x < k → I x ls → W p l e R s m args below meth c H locs cells slots Q (F0 m pc ls []) := by
    intro k
    induction k with
    | zero => intro x ls h; exact absurd h (Nat.not_lt_zero _)
    | succ k ih => intro x ls h hI; exact step x ls hI (fun x' ls' hI' hlt => ih x' ls' (by omega) hI')
  intro x ls hI
  exact key (μ x + 1) x ls (Nat.lt_succ_self _) hI
/-- the expression 'x != 0' or 'b' by a branch and two constants -/
theorem i_sel (S : CallFix p m c cc nL s args Ts own) {cond : Prop} {b : Bool} {o2 : Int} {tgt l1 l2 : Nat} (ht : cond → b = false) (hf : ¬ cond → b = true)
    (kb : (cond → W p l e R s m args below meth c H locs cells slots Q (F0 m l1 ls rest)) → (¬ cond → W p l e R s m args below meth c H locs cells slots Q (F0 m tgt ls rest)) → W p l e R s m args below meth c H locs cells slots Q (F0 m pc ls rest))
    (d2 : decode cc tgt = .ok (.iconst 1, 1)) (d3 : decode cc (tgt + 1) = .ok (.goto o2, 3)) (t3 : ((tgt + 1 : Nat) : Int) + o2 = (l2 : Int)) (d4 : decode cc l1 = .ok (.iconst 0, 1)) (t4 : l1 + 1 = l2)
    (kk : W p l e R s m args below meth c H locs cells slots Q (F0 m l2 ls (.int (bI b) :: rest))) : W p l e R s m args below meth c H locs cells slots Q (F0 m pc ls rest) := by
  subst t4
  refine kb (fun h => ?_) (fun h => ?_)
  · refine lv_iconst (v := 0) S.1 S.2.1 d4 (by decide) ?_
    rw [ht h] at kk
    exact kk
  · refine lv_iconst (v := 1) S.1 S.2.1 d2 (by decide) ?_
    refine lv_goto S.1 S.2.1 d3 t3 ?_
    rw [hf h] at kk
    exact kk
/-- ifeq L1; iconst_1; goto L2; L1: iconst_0; L2: -/
theorem i_ifeq (S : CallFix p m c cc nL s args Ts own) {x : Int32} {off o2 : Int} {l1 l2 : Nat} (d1 : decode cc pc = .ok (.ifCond .eq off, 3)) (t1 : (pc : Int) + off = (l1 : Int)) (d2 : decode cc (pc + 3) = .ok (.iconst 1, 1)) (d3 : decode cc (pc + 4) = .ok (.goto o2, 3)) (t3 : ((pc + 4 : Nat) : Int) + o2 = (l2 : Int)) (d4 : decode cc l1 = .ok (.iconst 0, 1)) (t4 : l1 + 1 = l2)
    (kk : W p l e R s m args below meth c H locs cells slots Q (F0 m l2 ls (.int (bI (x != 0)) :: rest))) : W p l e R s m args below meth c H locs cells slots Q (F0 m pc ls (.int x :: rest)) := by
  subst t4
  refine lv_if_eq S.1 S.2.1 d1 t1 (fun h => ?_) (fun h => ?_)
  · refine lv_iconst (v := 0) S.1 S.2.1 d4 (by decide) ?_
    have hb : (x != 0) = false := by simp [h]
    rw [hb] at kk
    exact kk
  · refine lv_iconst (v := 1) S.1 S.2.1 d2 (by decide) ?_
    refine lv_goto S.1 S.2.1 d3 t3 ?_
    have hb : (x != 0) = true := by simp [h]
    rw [hb] at kk
    exact kk
end Nums
/-- a method's contract out of a walk of its body -/
theorem anyMet {l : Launch} {y : MethodName} {cc : ByteArray} {maxL : Nat} {ret : Option FieldType} {rm : Room} {H : Heap} {K : State → Prop} {Qc : Array Value → State → Outcome → State → Prop} {mc ms : Nat} {free : Addr → Prop} {vs : List Value} (hy : plainName y.cls = true) (hn : (lg_sl vs).length ≤ maxL)
    (body : ∀ (p : Program) (e : Env) (s : State) (m : MethodId) (below : List Frame) (meth : Method) (c : Code), CallFix p m c cc maxL s vs.toArray lw_all y.cls → meth.sig.returnType = ret → meth.locks = false → meth.name = y.name → s.heap = H → K s → ∀ ls : Array Slot, lv_has ls maxL (lv_args 0 vs) → W p l e rm s m vs.toArray below meth c H [] 0 0 (MQ below Qc vs.toArray s mc ms free) (F0 m 0 ls [])) :
    Met l y (ws_ y cc maxL ret) rm (va_Pc vs (fun U => U.heap = H ∧ K U)) Qc mc ms free := by
  refine Met.ofW (cc := cc) (maxL := maxL) (ret := ret) hy rfl ?_
  intro p e s m args below meth c s₁ B hml hv
  obtain ⟨rfl, hH, hK⟩ := hv
  have hts := atoms_spec (ws := ws_ y cc maxL ret) B.pre
  have hts : ∀ w ∈ lw_all, w.before _ s = true := fun w h => hts w (List.mem_cons_of_mem _ h)
  have hown : s.vm.findClass y.cls = some m.cls := findClass_of_methodNamed B.named
  have hin : meth.name = y.name := (name_of_methodNamed B.named B.method).1
  have hl := lv_entry vs (n := maxL) hn
  rw [lg_entry_eq]
  rw [hH]
  exact body p e s m below meth c ⟨B.exec, B.bytes, hml, hown, hts⟩ B.returns B.notSynchronized hin hH hK _ hl
section Rets
variable {p : Program} {l : Launch} {e : Env} {R : Room} {s : State} {m : MethodId} {args : Array Value} {below : List Frame} {meth : Method} {c : Code} {H : Heap} {locs : List Loc} {cells slots : Nat} {Q : State → Prop} {cc : ByteArray} {pc nL : Nat} {ls : Array Slot} {rest : List Value} {own : String} {Ts : List Cond}
theorem r_int (S : CallFix p m c cc nL s args Ts own) (hr : meth.sig.returnType = some .int) (hlk : meth.locks = false) (hH : s.heap = H) {v v' : Int32} (hv : v' = v) (hdg : decode cc pc = .ok (.ireturn, 1)) : W p l e R s m args below meth c H [] 0 0 (MQ below (QcRead v) args s 0 0 (fun _ => False)) (F0 m pc ls [.int v']) := by
  subst hv
  exact W.iret S.1 S.2.1 hr (fun t ht _ => ⟨rfl, by rw [ht, hH]⟩) (fun q h => by cases h) hdg hlk
theorem r_bool (S : CallFix p m c cc nL s args Ts own) (hr : meth.sig.returnType = some .boolean) (hlk : meth.locks = false) (hH : s.heap = H) {v v' : Bool} (hv : v' = v) (hdg : decode cc pc = .ok (.ireturn, 1)) : W p l e R s m args below meth c H [] 0 0 (MQ below (QcRead (bI v)) args s 0 0 (fun _ => False)) (F0 m pc ls [.int (bI v')]) := by
  subst hv
  exact W.zret S.1 S.2.1 hr (bI_z v') (fun t ht _ => ⟨rfl, by rw [ht, hH]⟩) (fun q h => by cases h) hdg hlk
end Rets
end
section
set_option maxRecDepth 100000
/-! the plain law: no program in sight -/
def dg (n d : Nat) : Nat := n / 2 ^ (9 - 3 * d) % 8
theorem dg_lt (n d : Nat) : dg n d < 8 := Nat.mod_lt _ (by decide)
theorem dg_0 (n : Nat) : dg n 0 = n / 512 % 8 := rfl
theorem dg_1 (n : Nat) : dg n 1 = n / 64 % 8 := rfl
theorem dg_2 (n : Nat) : dg n 2 = n / 8 % 8 := rfl
theorem dg_3 (n : Nat) : dg n 3 = n % 8 := by show n / 1 % 8 = _; rw [Nat.div_one]
def allB (f : Nat → Bool) : Nat → Bool
  | 0 => true
  | k + 1 => allB f k && f k
def anyB (f : Nat → Bool) : Nat → Bool
  | 0 => false
  | k + 1 => anyB f k || f k
def cnt (f : Nat → Bool) : Nat → Nat
  | 0 => 0
  | k + 1 => if f k = true then cnt f k + 1 else cnt f k
def lst (f : Nat → Bool) : Nat → Nat → Nat
  | 0, x => x
  | k + 1, x => if f x = true then x else lst f k (x + 1)
theorem allB_iff (f : Nat → Bool) : ∀ k, allB f k = true ↔ ∀ i, i < k → f i = true
  | 0 => ⟨fun _ i h => absurd h (Nat.not_lt_zero i), fun _ => rfl⟩
  | k + 1 => by
    simp only [allB, Bool.and_eq_true, allB_iff f k]
    constructor
    · intro h i hi
      rcases Nat.lt_or_ge i k with q | q
      · exact h.1 i q
      · have : i = k := by omega
        rw [this]; exact h.2
    · intro h
      exact ⟨fun i hi => h i (by omega), h k (by omega)⟩
theorem anyB_iff (f : Nat → Bool) : ∀ k, anyB f k = true ↔ ∃ i, i < k ∧ f i = true
  | 0 => ⟨fun h => (by cases h), fun ⟨i, h, _⟩ => absurd h (Nat.not_lt_zero i)⟩
  | k + 1 => by
    simp only [anyB, Bool.or_eq_true, anyB_iff f k]
    constructor
    · rintro (⟨i, h1, h2⟩ | h)
      · exact ⟨i, by omega, h2⟩
      · exact ⟨k, by omega, h⟩
    · rintro ⟨i, h1, h2⟩
      rcases Nat.lt_or_ge i k with q | q
      · exact Or.inl ⟨i, q, h2⟩
      · have : i = k := by omega
        rw [this] at h2; exact Or.inr h2
theorem allB_congr {f g : Nat → Bool} : ∀ k, (∀ i, i < k → f i = g i) → allB f k = allB g k
  | 0, _ => rfl
  | k + 1, h => by rw [allB, allB, allB_congr k (fun i hi => h i (by omega)), h k (by omega)]
theorem cnt_le (f : Nat → Bool) : ∀ k, cnt f k ≤ k
  | 0 => Nat.le_refl 0
  | k + 1 => by
    have := cnt_le f k
    unfold cnt
    split <;> omega
theorem cnt_congr {f g : Nat → Bool} : ∀ k, (∀ i, i < k → f i = g i) → cnt f k = cnt g k
  | 0, _ => rfl
  | k + 1, h => by rw [cnt, cnt, cnt_congr k (fun i hi => h i (by omega)), h k (by omega)]
theorem cnt_t {f : Nat → Bool} {k : Nat} (h : f k = true) : cnt f (k + 1) = cnt f k + 1 := by simp [cnt, h]
theorem cnt_f {f : Nat → Bool} {k : Nat} (h : f k = false) : cnt f (k + 1) = cnt f k := by simp [cnt, h]
theorem cnt_mono (f : Nat → Bool) {a : Nat} : ∀ b, a ≤ b → cnt f a ≤ cnt f b
  | 0, h => by have : a = 0 := by omega
               rw [this]; exact Nat.le_refl _
  | b + 1, h => by
    rcases Nat.lt_or_ge b a with q | q
    · have : a = b + 1 := by omega
      rw [this]; exact Nat.le_refl _
    · have h1 := cnt_mono f b q
      have h2 : cnt f b ≤ cnt f (b + 1) := by
        show cnt f b ≤ if f b = true then cnt f b + 1 else cnt f b
        split <;> omega
      omega
theorem cnt_lt {f : Nat → Bool} {a b : Nat} (h : f a = true) (hab : a < b) : cnt f a < cnt f b := by
  have h1 := cnt_mono f b (show a + 1 ≤ b from hab)
  rw [cnt_t h] at h1
  omega
/-- a fold over the members of P is constant where P has none -/
theorem gap {α : Type} {P : Nat → Bool} {F : Nat → α} (hF : ∀ k, P k = false → F (k + 1) = F k) {x : Nat} : ∀ y, x ≤ y → (∀ z, x ≤ z → z < y → P z = false) → F y = F x
  | 0, h, _ => by have : x = 0 := by omega
                  rw [this]
  | y + 1, h, hz => by
    rcases Nat.lt_or_ge y x with q | q
    · have : x = y + 1 := by omega
      rw [this]
    · rw [hF y (hz y q (by omega)), gap hF y q (fun z h1 h2 => hz z h1 (by omega))]
theorem lst_spec (f : Nat → Bool) : ∀ k x, x ≤ lst f k x ∧ lst f k x ≤ x + k ∧ (lst f k x < x + k → f (lst f k x) = true) ∧ ∀ z, x ≤ z → z < lst f k x → f z = false
  | 0, x => ⟨Nat.le_refl _, Nat.le_refl _, fun h => absurd h (Nat.lt_irrefl _), fun z h1 h2 => absurd h2 (Nat.not_lt.mpr h1)⟩
  | k + 1, x => by
    unfold lst
    by_cases h : f x = true
    · rw [if_pos h]
      exact ⟨Nat.le_refl _, by omega, fun _ => h, fun z h1 h2 => absurd h2 (Nat.not_lt.mpr h1)⟩
    · rw [if_neg h]
      obtain ⟨h1, h2, h3, h4⟩ := lst_spec f k (x + 1)
      refine ⟨by omega, by omega, fun q => h3 (by omega), fun z q1 q2 => ?_⟩
      rcases Nat.lt_or_ge x z with q | q
      · exact h4 z q q2
      · have : z = x := by omega
        rw [this]
        simpa using h
theorem lst_eq {f : Nat → Bool} {k x y : Nat} (h1 : x ≤ y) (h2 : y ≤ x + k) (h3 : y < x + k → f y = true) (h4 : ∀ z, x ≤ z → z < y → f z = false) : lst f k x = y := by
  obtain ⟨g1, g2, g3, g4⟩ := lst_spec f k x
  rcases Nat.lt_trichotomy (lst f k x) y with q | q | q
  · have a := g3 (by omega)
    rw [h4 _ g1 q] at a
    cases a
  · exact q
  · have a := h3 (by omega)
    rw [g4 _ h1 q] at a
    cases a
theorem lst_t {f : Nat → Bool} {k x : Nat} (h : f x = true) : lst f (k + 1) x = x := by simp [lst, h]
theorem lst_f {f : Nat → Bool} {k x : Nat} (h : f x = false) : lst f (k + 1) x = lst f k (x + 1) := by simp [lst, h]
def enc (N : Nat) : Int32 := if N < 4096 then nI N else -1
theorem enc_lt {N : Nat} (h : N < 4096) : enc N = nI N := if_pos h
theorem enc_ge {N : Nat} (h : ¬ N < 4096) : enc N = -1 := if_neg h
/-! the relations, the atoms, the answers -/
def atB (on rl fi se : Nat → Nat) (N i : Nat) : Bool := (on (rl i * 8 + dg N (fi i))).testBit (dg N (se i))
def usB (fi se : Nat → Nat) (v i : Nat) : Bool := fi i == v || se i == v
def ansB (on rl fi se : Nat → Nat) (n N : Nat) : Bool := allB (atB on rl fi se N) n && allB (fun v => anyB (usB fi se v) n || dg N v == 0) 4
def alw (on bk rl fi se th : Nat → Nat) (d i y : Nat) : Bool :=
  if fi i = d then (if se i = d then (on (rl i * 8 + y)).testBit y else if se i < d then (bk (rl i * 8 + th (se i))).testBit y else on (rl i * 8 + y) != 0)
  else if fi i < d then (on (rl i * 8 + th (fi i))).testBit y else bk (rl i * 8 + y) != 0
def okB (on bk rl fi se th : Nat → Nat) (n d y : Nat) : Bool := allB (fun i => !usB fi se d i || alw on bk rl fi se th d i y) n && (anyB (usB fi se d) n || y == 0)
def XI (on bk rl fi se : Nat → Nat) (n : Nat) : Prop := (∀ k, on k < 256) ∧ (∀ k, bk k < 256) ∧ (∀ k, rl k < 3) ∧ (∀ k, fi k < 4) ∧ (∀ k, se k < 4) ∧ n ≤ 5 ∧ ∀ r x y, r < 3 → x < 8 → y < 8 → (on (r * 8 + x)).testBit y = (bk (r * 8 + y)).testBit x
theorem ne0_of_bit {w y : Nat} (h : w.testBit y = true) : (w != 0) = true := by
  have : w ≠ 0 := by intro q; rw [q, Nat.zero_testBit] at h; cases h
  simpa using this
theorem okB_congr {on bk rl fi se th th' : Nat → Nat} {n d y : Nat} (h : ∀ w, w < d → th w = th' w) : okB on bk rl fi se th n d y = okB on bk rl fi se th' n d y := by
  unfold okB
  rw [allB_congr n (fun i _ => ?_)]
  have h1 : alw on bk rl fi se th d i y = alw on bk rl fi se th' d i y := by
    unfold alw
    split
    · split
      · rfl
      · split
        · rw [h _ (by assumption)]
        · rfl
    · split
      · rw [h _ (by assumption)]
      · rfl
  rw [h1]
section Search
variable {on bk rl fi se th : Nat → Nat} {n d N : Nat}
/-- an answer with this prefix has at place d a thing that all atoms allow -/
theorem ans_ok (hI : XI on bk rl fi se n) (hd : d < 4) (hp : ∀ w, w < d → dg N w = th w) (h : ansB on rl fi se n N = true) : okB on bk rl fi se th n d (dg N d) = true := by
  obtain ⟨-, -, hrl, hfi, hse, -, hco⟩ := hI
  unfold ansB at h
  rw [Bool.and_eq_true, allB_iff, allB_iff] at h
  obtain ⟨h1, h2⟩ := h
  unfold okB
  rw [Bool.and_eq_true, allB_iff]
  refine ⟨fun i hi => ?_, h2 d hd⟩
  rw [Bool.or_eq_true]
  by_cases hu : usB fi se d i = true
  · right
    have ha := h1 i hi
    unfold atB at ha
    unfold usB at hu
    rw [Bool.or_eq_true, beq_iff_eq, beq_iff_eq] at hu
    unfold alw
    split
    · rename_i e1
      split
      · rename_i e2
        rw [e1, e2] at ha; exact ha
      · rename_i e2
        split
        · rename_i e3
          rw [e1, hp _ e3, hco _ _ _ (hrl i) (dg_lt N d) (by rw [← hp _ e3]; exact dg_lt N _)] at ha
          exact ha
        · rw [e1] at ha
          exact ne0_of_bit ha
    · rename_i e1
      have e2 : se i = d := by rcases hu with q | q
                               · exact absurd q e1
                               · exact q
      split
      · rename_i e3
        rw [e2, hp _ e3] at ha; exact ha
      · rw [e2, hco _ _ _ (hrl i) (dg_lt N _) (dg_lt N d)] at ha
        exact ne0_of_bit ha
  · left
    simpa using hu
theorem ok_ans (hI : XI on bk rl fi se n) (hp : ∀ w, w < 4 → dg N w = th w) (h : ∀ w, w < 4 → okB on bk rl fi se th n w (th w) = true) : ansB on rl fi se n N = true := by
  obtain ⟨-, -, hrl, hfi, hse, -, hco⟩ := hI
  have ht : ∀ w, w < 4 → th w < 8 := fun w hw => by rw [← hp w hw]; exact dg_lt N w
  have h1 : ∀ w, w < 4 → (∀ i, i < n → (!usB fi se w i || alw on bk rl fi se th w i (th w)) = true) ∧ (anyB (usB fi se w) n || th w == 0) = true := by
    intro w hw
    have := h w hw
    unfold okB at this
    rw [Bool.and_eq_true, allB_iff] at this
    exact this
  unfold ansB
  rw [Bool.and_eq_true, allB_iff, allB_iff]
  refine ⟨fun i hi => ?_, fun v hv => ?_⟩
  · unfold atB
    rw [hp _ (hfi i), hp _ (hse i)]
    rcases Nat.lt_trichotomy (fi i) (se i) with q | q | q
    · have a := (h1 _ (hse i)).1 i hi
      have u : usB fi se (se i) i = true := by simp [usB]
      rw [u, Bool.not_true, Bool.false_or] at a
      unfold alw at a
      rw [if_neg (by omega), if_pos q] at a
      exact a
    · have a := (h1 _ (hse i)).1 i hi
      have u : usB fi se (se i) i = true := by simp [usB]
      rw [u, Bool.not_true, Bool.false_or] at a
      unfold alw at a
      rw [if_pos q, if_pos rfl] at a
      rw [q]; exact a
    · have a := (h1 _ (hfi i)).1 i hi
      have u : usB fi se (fi i) i = true := by simp [usB]
      rw [u, Bool.not_true, Bool.false_or] at a
      unfold alw at a
      rw [if_pos rfl, if_neg (by omega), if_pos q] at a
      rw [hco _ _ _ (hrl i) (ht _ (hfi i)) (ht _ (hse i))]
      exact a
  · rw [hp v hv]; exact (h1 v hv).2
end Search
/-! the search -/
def wt (d : Nat) : Nat := 2 ^ (9 - 3 * d)
def pv (th : Nat → Nat) : Nat → Nat
  | 0 => 0
  | d + 1 => pv th d + th d * wt d
theorem wt_0 : wt 0 = 512 := rfl
theorem wt_1 : wt 1 = 64 := rfl
theorem wt_2 : wt 2 = 8 := rfl
theorem wt_3 : wt 3 = 1 := rfl
theorem pv_1 (th : Nat → Nat) : pv th 1 = th 0 * 512 := by simp [pv, wt_0]
theorem pv_2 (th : Nat → Nat) : pv th 2 = th 0 * 512 + th 1 * 64 := by simp [pv, wt_0, wt_1]
theorem pv_3 (th : Nat → Nat) : pv th 3 = th 0 * 512 + th 1 * 64 + th 2 * 8 := by simp [pv, wt_0, wt_1, wt_2]
theorem pv_4 (th : Nat → Nat) : pv th 4 = th 0 * 512 + th 1 * 64 + th 2 * 8 + th 3 := by simp [pv, wt_0, wt_1, wt_2, wt_3]
theorem pv_congr {th th' : Nat → Nat} : ∀ d, (∀ w, w < d → th w = th' w) → pv th d = pv th' d
  | 0, _ => rfl
  | d + 1, h => by rw [pv, pv, pv_congr d (fun w hw => h w (by omega)), h d (by omega)]
theorem lt4 {P : Nat → Prop} {d : Nat} (hd : d < 4) (h0 : P 0) (h1 : P 1) (h2 : P 2) (h3 : P 3) : P d := by
  match d, hd with
  | 0, _ => exact h0
  | 1, _ => exact h1
  | 2, _ => exact h2
  | 3, _ => exact h3
/-- a number between two marks has their digits -/
theorem digs {th : Nat → Nat} {d N x : Nat} (hd : d < 4) (ht : ∀ w, w < d → th w < 8) (hx : x < 8) (h1 : pv th d + x * wt d ≤ N) (h2 : N < pv th d + (x + 1) * wt d) : (∀ w, w < d → dg N w = th w) ∧ dg N d = x := by
  match d, hd with
  | 0, _ =>
    simp only [pv, wt_0] at h1 h2
    refine ⟨fun w hw => by omega, ?_⟩
    rw [dg_0]; omega
  | 1, _ =>
    have a0 := ht 0 (by omega)
    rw [pv_1, wt_1] at h1 h2
    refine ⟨fun w hw => ?_, ?_⟩
    · have : w = 0 := by omega
      subst this
      rw [dg_0]; omega
    · rw [dg_1]; omega
  | 2, _ =>
    have a0 := ht 0 (by omega)
    have a1 := ht 1 (by omega)
    rw [pv_2, wt_2] at h1 h2
    refine ⟨fun w hw => ?_, ?_⟩
    · have : w = 0 ∨ w = 1 := by omega
      rcases this with rfl | rfl
      · rw [dg_0]; omega
      · rw [dg_1]; omega
    · rw [dg_2]; omega
  | 3, _ =>
    have a0 := ht 0 (by omega)
    have a1 := ht 1 (by omega)
    have a2 := ht 2 (by omega)
    rw [pv_3, wt_3] at h1 h2
    refine ⟨fun w hw => ?_, ?_⟩
    · have : w = 0 ∨ w = 1 ∨ w = 2 := by omega
      rcases this with rfl | rfl | rfl
      · rw [dg_0]; omega
      · rw [dg_1]; omega
      · rw [dg_2]; omega
    · rw [dg_3]; omega
def SI (on bk rl fi se : Nat → Nat) (n low d : Nat) (th : Nat → Nat) (x : Nat) : Prop :=
  d < 4 ∧ (∀ w, w < d → th w < 8) ∧ x ≤ 8 ∧ (∀ w, w < d → okB on bk rl fi se th n w (th w) = true) ∧ (∀ N, low ≤ N → N < pv th d + x * wt d → ansB on rl fi se n N = false) ∧ low < pv th d + x * wt d + wt d
section Steps
variable {on bk rl fi se th : Nat → Nat} {n low d x : Nat}
theorem si_0 (hl : low < 4096) : SI on bk rl fi se n low 0 th (dg low 0) := by
  refine ⟨by decide, fun w h => absurd h (Nat.not_lt_zero w), Nat.le_of_lt (dg_lt _ _), fun w h => absurd h (Nat.not_lt_zero w), fun N h1 h2 => ?_, ?_⟩
  · simp only [pv, wt_0, dg_0] at h2; omega
  · simp only [pv, wt_0, dg_0]; omega
/-- between the mark and the found thing there is no answer -/
theorem si_gap (hI : XI on bk rl fi se n) (h : SI on bk rl fi se n low d th x) {y : Nat} (hy8 : y ≤ 8) (hy : ∀ z, x ≤ z → z < y → okB on bk rl fi se th n d z = false) : ∀ N, low ≤ N → N < pv th d + y * wt d → ansB on rl fi se n N = false := by
  obtain ⟨hd, ht, hx, hok, hno, hlow⟩ := h
  intro N h1 h2
  rcases Nat.lt_or_ge N (pv th d + x * wt d) with q | q
  · exact hno N h1 q
  · cases hA : ansB on rl fi se n N with
    | false => rfl
    | true =>
      exfalso
      have hw : 0 < wt d := Nat.two_pow_pos _
      -- the digit of N at d
      obtain ⟨z, hz1, hz2, hz3⟩ : ∃ z, z < y ∧ pv th d + z * wt d ≤ N ∧ N < pv th d + (z + 1) * wt d := by
        refine ⟨(N - pv th d) / wt d, ?_, ?_, ?_⟩
        · rw [Nat.div_lt_iff_lt_mul hw]; omega
        · have := Nat.div_mul_le_self (N - pv th d) (wt d)
          have h3 : pv th d ≤ N := by
            have : 0 ≤ x * wt d := Nat.zero_le _
            omega
          omega
        · have := Nat.lt_div_mul_add (a := N - pv th d) hw
          rw [Nat.add_mul, Nat.one_mul]
          omega
      have hxz : x ≤ z := by
        rcases Nat.lt_or_ge z x with q2 | q2
        · exfalso
          have : (z + 1) * wt d ≤ x * wt d := Nat.mul_le_mul_right _ q2
          omega
        · exact q2
      obtain ⟨e1, e2⟩ := digs hd ht (by omega) hz2 hz3
      have a := ans_ok hI hd e1 hA
      rw [e2, hy z hxz hz1] at a
      cases a
/-- the new mark behind a found thing, not tight -/
theorem si_fwd (hI : XI on bk rl fi se n) (h : SI on bk rl fi se n low d th x) {y : Nat} (hy8 : y < 8) (hxy : x ≤ y) (hok : okB on bk rl fi se th n d y = true) (hy : ∀ z, x ≤ z → z < y → okB on bk rl fi se th n d z = false) :
    (∀ w, w < d + 1 → va_up th d y w < 8) ∧ (∀ w, w < d + 1 → okB on bk rl fi se (va_up th d y) n w (va_up th d y w) = true) ∧ (∀ N, low ≤ N → N < pv (va_up th d y) (d + 1) → ansB on rl fi se n N = false) ∧ low < pv (va_up th d y) (d + 1) + wt d := by
  have hg := si_gap hI h (Nat.le_of_lt hy8) hy
  obtain ⟨hd, ht, hx, hk, hno, hlow⟩ := h
  have hup : ∀ w, w < d → va_up th d y w = th w := fun w hw => va_up_ne th y (by omega)
  have hself : va_up th d y d = y := va_up_self th d y
  have hpv : pv (va_up th d y) (d + 1) = pv th d + y * wt d := by
    rw [pv, pv_congr d hup, hself]
  refine ⟨fun w hw => ?_, fun w hw => ?_, ?_, ?_⟩
  · rcases Nat.lt_or_ge w d with q | q
    · rw [hup w q]; exact ht w q
    · have : w = d := by omega
      rw [this, hself]; exact hy8
  · rcases Nat.lt_or_ge w d with q | q
    · rw [hup w q, okB_congr (th' := th) (fun v hv => hup v (by omega))]; exact hk w q
    · have : w = d := by omega
      rw [this, hself, okB_congr (th' := th) (fun v hv => hup v (by omega))]; exact hok
  · rw [hpv]; exact hg
  · rw [hpv]
    have : x * wt d ≤ y * wt d := Nat.mul_le_mul_right _ hxy
    omega
/-- tight: the digits so far are those of low -/
theorem tight_iff (hl : low < 4096) {th : Nat → Nat} {d : Nat} (hd : d < 4) (ht : ∀ w, w < d + 1 → th w < 8) : allB (fun w => th w == dg low w) (d + 1) = true ↔ pv th (d + 1) = low / wt d * wt d := by
  rw [allB_iff]
  simp only [beq_iff_eq]
  match d, hd with
  | 0, _ =>
    have a0 := ht 0 (by omega)
    rw [pv_1, wt_0]
    constructor
    · intro h; have := h 0 (by omega); rw [dg_0] at this; omega
    · intro h w hw
      have : w = 0 := by omega
      subst this; rw [dg_0]; omega
  | 1, _ =>
    have a0 := ht 0 (by omega)
    have a1 := ht 1 (by omega)
    rw [pv_2, wt_1]
    constructor
    · intro h; have b0 := h 0 (by omega); have b1 := h 1 (by omega); rw [dg_0] at b0; rw [dg_1] at b1; omega
    · intro h w hw
      have : w = 0 ∨ w = 1 := by omega
      rcases this with rfl | rfl
      · rw [dg_0]; omega
      · rw [dg_1]; omega
  | 2, _ =>
    have a0 := ht 0 (by omega)
    have a1 := ht 1 (by omega)
    have a2 := ht 2 (by omega)
    rw [pv_3, wt_2]
    constructor
    · intro h; have b0 := h 0 (by omega); have b1 := h 1 (by omega); have b2 := h 2 (by omega); rw [dg_0] at b0; rw [dg_1] at b1; rw [dg_2] at b2; omega
    · intro h w hw
      have : w = 0 ∨ w = 1 ∨ w = 2 := by omega
      rcases this with rfl | rfl | rfl
      · rw [dg_0]; omega
      · rw [dg_1]; omega
      · rw [dg_2]; omega
  | 3, _ =>
    have a0 := ht 0 (by omega)
    have a1 := ht 1 (by omega)
    have a2 := ht 2 (by omega)
    have a3 := ht 3 (by omega)
    rw [pv_4, wt_3]
    constructor
    · intro h; have b0 := h 0 (by omega); have b1 := h 1 (by omega); have b2 := h 2 (by omega); have b3 := h 3 (by omega); rw [dg_0] at b0; rw [dg_1] at b1; rw [dg_2] at b2; rw [dg_3] at b3; omega
    · intro h w hw
      have : w = 0 ∨ w = 1 ∨ w = 2 ∨ w = 3 := by omega
      rcases this with rfl | rfl | rfl | rfl
      · rw [dg_0]; omega
      · rw [dg_1]; omega
      · rw [dg_2]; omega
      · rw [dg_3]; omega
theorem pv_mod {th : Nat → Nat} {d : Nat} (hd : d < 4) : pv th (d + 1) % wt d = 0 := by
  match d, hd with
  | 0, _ => rw [pv_1, wt_0]; omega
  | 1, _ => rw [pv_2, wt_1]; omega
  | 2, _ => rw [pv_3, wt_2]; omega
  | 3, _ => rw [pv_4, wt_3]; omega
/-- not tight: the mark is beyond low -/
theorem loose_lt {d P : Nat} (hd : d < 4) (hm : P % wt d = 0) (h : low < P + wt d) (hne : P ≠ low / wt d * wt d) : low < P := by
  match d, hd with
  | 0, _ => rw [wt_0] at *; omega
  | 1, _ => rw [wt_1] at *; omega
  | 2, _ => rw [wt_2] at *; omega
  | 3, _ => rw [wt_3] at *; omega
theorem si_next (hl : low < 4096) (hI : XI on bk rl fi se n) (h : SI on bk rl fi se n low d th x) {y : Nat} (hd3 : d + 1 < 4) (hy8 : y < 8) (hxy : x ≤ y) (hok : okB on bk rl fi se th n d y = true) (hy : ∀ z, x ≤ z → z < y → okB on bk rl fi se th n d z = false) :
    SI on bk rl fi se n low (d + 1) (va_up th d y) (if allB (fun w => va_up th d y w == dg low w) (d + 1) = true then dg low (d + 1) else 0) := by
  obtain ⟨k1, k2, k3, k4⟩ := si_fwd hI h hy8 hxy hok hy
  have hd : d < 4 := h.1
  have htg := tight_iff hl (th := va_up th d y) hd k1
  generalize va_up th d y = th' at k1 k2 k3 k4 htg ⊢
  have hm := pv_mod (th := th') hd
  split
  · rename_i ht
    have e := htg.mp ht
    refine ⟨hd3, k1, Nat.le_of_lt (dg_lt _ _), k2, fun N h1 h2 => ?_, ?_⟩
    · exfalso
      rw [e] at h2
      have hd' : d = 0 ∨ d = 1 ∨ d = 2 := by omega
      rcases hd' with rfl | rfl | rfl
      · rw [wt_0, wt_1, dg_1] at h2; omega
      · rw [wt_1, wt_2, dg_2] at h2; omega
      · rw [wt_2, wt_3, dg_3] at h2; omega
    · rw [e]
      have hd' : d = 0 ∨ d = 1 ∨ d = 2 := by omega
      rcases hd' with rfl | rfl | rfl
      · rw [wt_0, wt_1, dg_1]; omega
      · rw [wt_1, wt_2, dg_2]; omega
      · rw [wt_2, wt_3, dg_3]; omega
  · rename_i ht
    have e := loose_lt hd hm k4 (fun q => ht (htg.mpr q))
    refine ⟨hd3, k1, Nat.zero_le _, k2, fun N h1 h2 => k3 N h1 (by omega), by omega⟩
theorem si_found (hl : low < 4096) (hI : XI on bk rl fi se n) (h : SI on bk rl fi se n low 3 th x) {y : Nat} (hy8 : y < 8) (hxy : x ≤ y) (hok : okB on bk rl fi se th n 3 y = true) (hy : ∀ z, x ≤ z → z < y → okB on bk rl fi se th n 3 z = false) :
    lst (ansB on rl fi se n) (4096 - low) low = pv (va_up th 3 y) 4 ∧ pv (va_up th 3 y) 4 < 4096 := by
  obtain ⟨k1, k2, k3, k4⟩ := si_fwd hI h hy8 hxy hok hy
  generalize va_up th 3 y = th' at k1 k2 k3 k4 ⊢
  have a0 := k1 0 (by decide)
  have a1 := k1 1 (by decide)
  have a2 := k1 2 (by decide)
  have a3 := k1 3 (by decide)
  have hlt : pv th' 4 < 4096 := by rw [pv_4]; omega
  refine ⟨lst_eq ?_ (by omega) (fun _ => ?_) k3, hlt⟩
  · have k5 : low < pv th' 4 + 1 := k4
    omega
  · refine ok_ans hI (fun w hw => ?_) k2
    rw [pv_4]
    have : w = 0 ∨ w = 1 ∨ w = 2 ∨ w = 3 := by omega
    rcases this with rfl | rfl | rfl | rfl
    · rw [dg_0]; omega
    · rw [dg_1]; omega
    · rw [dg_2]; omega
    · rw [dg_3]; omega
theorem si_back (hI : XI on bk rl fi se n) (h : SI on bk rl fi se n low (d + 1) th x) (hy : ∀ z, x ≤ z → z < 8 → okB on bk rl fi se th n (d + 1) z = false) : SI on bk rl fi se n low d th (th d + 1) := by
  have hg := si_gap hI h (Nat.le_refl 8) hy
  obtain ⟨hd, ht, hx, hk, hno, hlow⟩ := h
  have htd := ht d (by omega)
  have hw : wt d = 8 * wt (d + 1) := by
    have hd' : d = 0 ∨ d = 1 ∨ d = 2 := by omega
    rcases hd' with rfl | rfl | rfl <;> rfl
  have e : pv th d + (th d + 1) * wt d = pv th (d + 1) + 8 * wt (d + 1) := by
    rw [pv, Nat.add_mul, hw]; omega
  refine ⟨by omega, fun w q => ht w (by omega), by omega, fun w q => hk w (by omega), ?_, ?_⟩
  · rw [e]; exact hg
  · rw [e]
    have : x * wt (d + 1) ≤ 8 * wt (d + 1) := Nat.mul_le_mul_right _ hx
    omega
theorem si_none (hl : low < 4096) (hI : XI on bk rl fi se n) (h : SI on bk rl fi se n low 0 th x) (hy : ∀ z, x ≤ z → z < 8 → okB on bk rl fi se th n 0 z = false) : lst (ansB on rl fi se n) (4096 - low) low = 4096 := by
  have hg := si_gap hI h (Nat.le_refl 8) hy
  refine lst_eq (Nat.le_of_lt hl) (by omega) (fun q => by omega) (fun z h1 h2 => hg z h1 ?_)
  simp only [pv, wt_0]; omega
/-- the measure -/
def mu (d : Nat) (th : Nat → Nat) (x : Nat) : Nat := match d with
  | 0 => (8 - x) * 658 + 1
  | 1 => (8 - x) * 82 + 1 + ((7 - th 0) * 658 + 1)
  | 2 => (8 - x) * 10 + 1 + ((7 - th 1) * 82 + 1) + ((7 - th 0) * 658 + 1)
  | _ => (8 - x) + 1 + ((7 - th 2) * 10 + 1) + ((7 - th 1) * 82 + 1) + ((7 - th 0) * 658 + 1)
theorem mu_0 {th : Nat → Nat} {x : Nat} : mu 0 th x ≤ 16384 := by simp only [mu]; omega
theorem mu_pos {d : Nat} {th : Nat → Nat} {x : Nat} : 0 < mu d th x := by unfold mu; split <;> omega
theorem mu_fwd {d x y z : Nat} {th : Nat → Nat} (hd : d + 1 < 4) (hy : y < 8) (hxy : x ≤ y) : mu (d + 1) (va_up th d y) z < mu d th x := by
  have hd' : d = 0 ∨ d = 1 ∨ d = 2 := by omega
  rcases hd' with rfl | rfl | rfl
  · simp only [mu, va_up]; simp; omega
  · simp only [mu, va_up]; simp; omega
  · simp only [mu, va_up]; simp; omega
theorem mu_back {d x : Nat} {th : Nat → Nat} (hd : d + 1 < 4) (ht : th d < 8) : mu d th (th d + 1) < mu (d + 1) th x := by
  have hd' : d = 0 ∨ d = 1 ∨ d = 2 := by omega
  rcases hd' with rfl | rfl | rfl
  · simp only [mu]; omega
  · simp only [mu]; omega
  · simp only [mu]; omega
end Steps
end
section
set_option maxRecDepth 100000
/-! the cells of the two objects -/
abbrev vwCl : List vw_C := [(RX0, TX0, 8), (RX1, TX1, 6)]
abbrev tX (cS cB : ClassId) : List (ClassId × FieldType) := [(cS, .short), (cB, .byte)]
abbrev tM (cI cZ : ClassId) : List (ClassId × FieldType) := [(cI, .int), (cZ, .boolean)]
abbrev xw (a : Nat → Nat) (cS cB : ClassId) (on bk rl fi se : Nat → Nat) (n : Nat) (th le : Nat → Nat) : va_W :=
  [(a 0, .inr (0, [.ref (a 1), .ref (a 2), .ref (a 3), .ref (a 4), .ref (a 5), .int (nI n), .ref (a 6), .ref (a 7)])), (a 1, .inl (cS, 24, .inl (fun k => nI (on k)))), (a 2, .inl (cS, 24, .inl (fun k => nI (bk k)))), (a 3, .inl (cB, 5, .inl (fun k => nI (rl k)))), (a 4, .inl (cB, 5, .inl (fun k => nI (fi k)))), (a 5, .inl (cB, 5, .inl (fun k => nI (se k)))), (a 6, .inl (cB, 4, .inl (fun k => nI (th k)))), (a 7, .inl (cB, 4, .inl (fun k => nI (le k))))]
abbrev mw (b : Nat → Nat) (cI cZ : ClassId) (on rl fi se : Nat → Nat) (n : Nat) (sn : Nat → Bool) : va_W :=
  [(b 0, .inr (1, [.ref (b 1), .int (nI n), .ref (b 2), .ref (b 3), .ref (b 4), .ref (b 5)])), (b 1, .inl (cI, 24, .inl (fun k => nI (on k)))), (b 2, .inl (cI, 5, .inl (fun k => nI (rl k)))), (b 3, .inl (cI, 5, .inl (fun k => nI (fi k)))), (b 4, .inl (cI, 5, .inl (fun k => nI (se k)))), (b 5, .inl (cZ, 64, .inl (fun k => bI (sn k))))]
def xAp (a : Nat → Nat) (k : Nat) : Prop := ∀ i j, i < k → j < k → a i = a j → i = j
def xA (a : Nat → Nat) (k : Nat) : Nat → Prop := fun q => ∃ i, i < k ∧ q = a i
section Cells
variable {a b : Nat → Nat} {cS cB cI cZ : ClassId} {on bk rl fi se th le : Nat → Nat} {n : Nat} {sn : Nat → Bool}
theorem xw_at {i : Nat} {q : Nat × va_E} (h : (xw a cS cB on bk rl fi se n th le)[i]? = some q) : i < 8 ∧ q.1 = a i := by
  match i, h with
  | 0, h => cases h; exact ⟨by decide, rfl⟩
  | 1, h => cases h; exact ⟨by decide, rfl⟩
  | 2, h => cases h; exact ⟨by decide, rfl⟩
  | 3, h => cases h; exact ⟨by decide, rfl⟩
  | 4, h => cases h; exact ⟨by decide, rfl⟩
  | 5, h => cases h; exact ⟨by decide, rfl⟩
  | 6, h => cases h; exact ⟨by decide, rfl⟩
  | 7, h => cases h; exact ⟨by decide, rfl⟩
  | i + 8, h => simp at h
theorem mw_at {i : Nat} {q : Nat × va_E} (h : (mw b cI cZ on rl fi se n sn)[i]? = some q) : i < 6 ∧ q.1 = b i := by
  match i, h with
  | 0, h => cases h; exact ⟨by decide, rfl⟩
  | 1, h => cases h; exact ⟨by decide, rfl⟩
  | 2, h => cases h; exact ⟨by decide, rfl⟩
  | 3, h => cases h; exact ⟨by decide, rfl⟩
  | 4, h => cases h; exact ⟨by decide, rfl⟩
  | 5, h => cases h; exact ⟨by decide, rfl⟩
  | i + 6, h => simp at h
theorem xD (h : xAp a 8) : va_D (xA a 8) (xw a cS cB on bk rl fi se n th le) := by
  refine ⟨fun i j p q hi hj e => ?_, fun k q hk => ?_⟩
  · obtain ⟨h1, h2⟩ := xw_at hi
    obtain ⟨h3, h4⟩ := xw_at hj
    exact h i j h1 h3 (by rw [← h2, ← h4]; exact e)
  · obtain ⟨h1, h2⟩ := xw_at hk
    exact ⟨k, h1, h2⟩
theorem mD (h : xAp b 6) : va_D (xA b 6) (mw b cI cZ on rl fi se n sn) := by
  refine ⟨fun i j p q hi hj e => ?_, fun k q hk => ?_⟩
  · obtain ⟨h1, h2⟩ := mw_at hi
    obtain ⟨h3, h4⟩ := mw_at hj
    exact h i j h1 h3 (by rw [← h2, ← h4]; exact e)
  · obtain ⟨h1, h2⟩ := mw_at hk
    exact ⟨k, h1, h2⟩
theorem up_nI {f : Nat → Nat} {i x : Nat} : upd (fun k => nI (f k)) i (nI x) = fun k => nI (va_up f i x k) := by
  funext k
  simp only [upd, va_up]
  split <;> rfl
theorem up_bI {f : Nat → Bool} {i : Nat} {x : Bool} : upd (fun k => bI (f k)) i (bI x) = fun k => bI (va_up f i x k) := by
  funext k
  simp only [upd, va_up]
  split <;> rfl
theorem bI_nar (x : Bool) : vp_nar .boolean (bI x) = bI x := by cases x <;> rfl
end Cells
section Rows
variable {p : Program} {l : Launch} {e : Env} {R : Room} {s : State} {m : MethodId} {args : Array Value} {below : List Frame} {meth : Method} {c : Code} {H H0 : Heap} {locs : List Loc} {cells slots : Nat} {Q : State → Prop} {cc : ByteArray} {pc nL : Nat} {ls : Array Slot} {rest : List Value} {own : String}
variable {D : va_G} {a b : Nat → Nat} {cS cB cI cZ : ClassId} {on bk rl fi se th le : Nat → Nat} {n : Nat} {sn : Nat → Bool}
theorem gX_on (S : CallFix p m c cc nL s args lw_all RX0) (hK : va_K D vwCl (tX cS cB) s) (hP : va_P D vwCl (xw a cS cB on bk rl fi se n th le) H) (hdg : decode cc pc = .ok (.getfield 7, 3)) (kk : W p l e R s m args below meth c H locs cells slots Q (F0 m (pc + 3) ls (.ref (a 1) :: rest))) : W p l e R s m args below meth c H locs cells slots Q (F0 m pc ls (.ref (a 0) :: rest)) :=
  va_get (D := D) (ci := 0) (v := .ref (a 1)) (C := RX0) (T := TX0) (N := 8) S.1 S.2.1 S.2.2.2.2 in_X0 S.2.2.2.1 hK hP 0 rfl rfl 0 (by decide) (S.2.2.2.2 _ q26) (fun _ h9 => h9) rfl hdg kk
theorem gX_bk (S : CallFix p m c cc nL s args lw_all RX0) (hK : va_K D vwCl (tX cS cB) s) (hP : va_P D vwCl (xw a cS cB on bk rl fi se n th le) H) (hdg : decode cc pc = .ok (.getfield 13, 3)) (kk : W p l e R s m args below meth c H locs cells slots Q (F0 m (pc + 3) ls (.ref (a 2) :: rest))) : W p l e R s m args below meth c H locs cells slots Q (F0 m pc ls (.ref (a 0) :: rest)) :=
  va_get (D := D) (ci := 0) (v := .ref (a 2)) (C := RX0) (T := TX0) (N := 8) S.1 S.2.1 S.2.2.2.2 in_X0 S.2.2.2.1 hK hP 0 rfl rfl 1 (by decide) (S.2.2.2.2 _ q27) (fun _ h9 => h9) rfl hdg kk
theorem gX_rl (S : CallFix p m c cc nL s args lw_all RX0) (hK : va_K D vwCl (tX cS cB) s) (hP : va_P D vwCl (xw a cS cB on bk rl fi se n th le) H) (hdg : decode cc pc = .ok (.getfield 16, 3)) (kk : W p l e R s m args below meth c H locs cells slots Q (F0 m (pc + 3) ls (.ref (a 3) :: rest))) : W p l e R s m args below meth c H locs cells slots Q (F0 m pc ls (.ref (a 0) :: rest)) :=
  va_get (D := D) (ci := 0) (v := .ref (a 3)) (C := RX0) (T := TX0) (N := 8) S.1 S.2.1 S.2.2.2.2 in_X0 S.2.2.2.1 hK hP 0 rfl rfl 2 (by decide) (S.2.2.2.2 _ q28) (fun _ h9 => h9) rfl hdg kk
theorem gX_fi (S : CallFix p m c cc nL s args lw_all RX0) (hK : va_K D vwCl (tX cS cB) s) (hP : va_P D vwCl (xw a cS cB on bk rl fi se n th le) H) (hdg : decode cc pc = .ok (.getfield 20, 3)) (kk : W p l e R s m args below meth c H locs cells slots Q (F0 m (pc + 3) ls (.ref (a 4) :: rest))) : W p l e R s m args below meth c H locs cells slots Q (F0 m pc ls (.ref (a 0) :: rest)) :=
  va_get (D := D) (ci := 0) (v := .ref (a 4)) (C := RX0) (T := TX0) (N := 8) S.1 S.2.1 S.2.2.2.2 in_X0 S.2.2.2.1 hK hP 0 rfl rfl 3 (by decide) (S.2.2.2.2 _ q29) (fun _ h9 => h9) rfl hdg kk
theorem gX_se (S : CallFix p m c cc nL s args lw_all RX0) (hK : va_K D vwCl (tX cS cB) s) (hP : va_P D vwCl (xw a cS cB on bk rl fi se n th le) H) (hdg : decode cc pc = .ok (.getfield 23, 3)) (kk : W p l e R s m args below meth c H locs cells slots Q (F0 m (pc + 3) ls (.ref (a 5) :: rest))) : W p l e R s m args below meth c H locs cells slots Q (F0 m pc ls (.ref (a 0) :: rest)) :=
  va_get (D := D) (ci := 0) (v := .ref (a 5)) (C := RX0) (T := TX0) (N := 8) S.1 S.2.1 S.2.2.2.2 in_X0 S.2.2.2.1 hK hP 0 rfl rfl 4 (by decide) (S.2.2.2.2 _ q30) (fun _ h9 => h9) rfl hdg kk
theorem gX_n (S : CallFix p m c cc nL s args lw_all RX0) (hK : va_K D vwCl (tX cS cB) s) (hP : va_P D vwCl (xw a cS cB on bk rl fi se n th le) H) (hdg : decode cc pc = .ok (.getfield 50, 3)) (kk : W p l e R s m args below meth c H locs cells slots Q (F0 m (pc + 3) ls (.int (nI n) :: rest))) : W p l e R s m args below meth c H locs cells slots Q (F0 m pc ls (.ref (a 0) :: rest)) :=
  va_get (D := D) (ci := 0) (v := .int (nI n)) (C := RX0) (T := TX0) (N := 8) S.1 S.2.1 S.2.2.2.2 in_X0 S.2.2.2.1 hK hP 0 rfl rfl 5 (by decide) (S.2.2.2.2 _ q31) (fun _ h9 => h9) rfl hdg kk
theorem gX_th (S : CallFix p m c cc nL s args lw_all RX0) (hK : va_K D vwCl (tX cS cB) s) (hP : va_P D vwCl (xw a cS cB on bk rl fi se n th le) H) (hdg : decode cc pc = .ok (.getfield 26, 3)) (kk : W p l e R s m args below meth c H locs cells slots Q (F0 m (pc + 3) ls (.ref (a 6) :: rest))) : W p l e R s m args below meth c H locs cells slots Q (F0 m pc ls (.ref (a 0) :: rest)) :=
  va_get (D := D) (ci := 0) (v := .ref (a 6)) (C := RX0) (T := TX0) (N := 8) S.1 S.2.1 S.2.2.2.2 in_X0 S.2.2.2.1 hK hP 0 rfl rfl 6 (by decide) (S.2.2.2.2 _ q32) (fun _ h9 => h9) rfl hdg kk
theorem gX_le (S : CallFix p m c cc nL s args lw_all RX0) (hK : va_K D vwCl (tX cS cB) s) (hP : va_P D vwCl (xw a cS cB on bk rl fi se n th le) H) (hdg : decode cc pc = .ok (.getfield 29, 3)) (kk : W p l e R s m args below meth c H locs cells slots Q (F0 m (pc + 3) ls (.ref (a 7) :: rest))) : W p l e R s m args below meth c H locs cells slots Q (F0 m pc ls (.ref (a 0) :: rest)) :=
  va_get (D := D) (ci := 0) (v := .ref (a 7)) (C := RX0) (T := TX0) (N := 8) S.1 S.2.1 S.2.2.2.2 in_X0 S.2.2.2.1 hK hP 0 rfl rfl 7 (by decide) (S.2.2.2.2 _ q33) (fun _ h9 => h9) rfl hdg kk
theorem gM_on (S : CallFix p m c cc nL s args lw_all RX1) (hK : va_K D vwCl (tM cI cZ) s) (hP : va_P D vwCl (mw b cI cZ on rl fi se n sn) H) (hdg : decode cc pc = .ok (.getfield 7, 3)) (kk : W p l e R s m args below meth c H locs cells slots Q (F0 m (pc + 3) ls (.ref (b 1) :: rest))) : W p l e R s m args below meth c H locs cells slots Q (F0 m pc ls (.ref (b 0) :: rest)) :=
  va_get (D := D) (ci := 1) (v := .ref (b 1)) (C := RX1) (T := TX1) (N := 6) S.1 S.2.1 S.2.2.2.2 in_X1 S.2.2.2.1 hK hP 0 rfl rfl 0 (by decide) (S.2.2.2.2 _ q169) (fun _ h9 => h9) rfl hdg kk
theorem gM_n (S : CallFix p m c cc nL s args lw_all RX1) (hK : va_K D vwCl (tM cI cZ) s) (hP : va_P D vwCl (mw b cI cZ on rl fi se n sn) H) (hdg : decode cc pc = .ok (.getfield 40, 3)) (kk : W p l e R s m args below meth c H locs cells slots Q (F0 m (pc + 3) ls (.int (nI n) :: rest))) : W p l e R s m args below meth c H locs cells slots Q (F0 m pc ls (.ref (b 0) :: rest)) :=
  va_get (D := D) (ci := 1) (v := .int (nI n)) (C := RX1) (T := TX1) (N := 6) S.1 S.2.1 S.2.2.2.2 in_X1 S.2.2.2.1 hK hP 0 rfl rfl 1 (by decide) (S.2.2.2.2 _ q170) (fun _ h9 => h9) rfl hdg kk
theorem gM_rl (S : CallFix p m c cc nL s args lw_all RX1) (hK : va_K D vwCl (tM cI cZ) s) (hP : va_P D vwCl (mw b cI cZ on rl fi se n sn) H) (hdg : decode cc pc = .ok (.getfield 13, 3)) (kk : W p l e R s m args below meth c H locs cells slots Q (F0 m (pc + 3) ls (.ref (b 2) :: rest))) : W p l e R s m args below meth c H locs cells slots Q (F0 m pc ls (.ref (b 0) :: rest)) :=
  va_get (D := D) (ci := 1) (v := .ref (b 2)) (C := RX1) (T := TX1) (N := 6) S.1 S.2.1 S.2.2.2.2 in_X1 S.2.2.2.1 hK hP 0 rfl rfl 2 (by decide) (S.2.2.2.2 _ q171) (fun _ h9 => h9) rfl hdg kk
theorem gM_fi (S : CallFix p m c cc nL s args lw_all RX1) (hK : va_K D vwCl (tM cI cZ) s) (hP : va_P D vwCl (mw b cI cZ on rl fi se n sn) H) (hdg : decode cc pc = .ok (.getfield 16, 3)) (kk : W p l e R s m args below meth c H locs cells slots Q (F0 m (pc + 3) ls (.ref (b 3) :: rest))) : W p l e R s m args below meth c H locs cells slots Q (F0 m pc ls (.ref (b 0) :: rest)) :=
  va_get (D := D) (ci := 1) (v := .ref (b 3)) (C := RX1) (T := TX1) (N := 6) S.1 S.2.1 S.2.2.2.2 in_X1 S.2.2.2.1 hK hP 0 rfl rfl 3 (by decide) (S.2.2.2.2 _ q172) (fun _ h9 => h9) rfl hdg kk
theorem gM_se (S : CallFix p m c cc nL s args lw_all RX1) (hK : va_K D vwCl (tM cI cZ) s) (hP : va_P D vwCl (mw b cI cZ on rl fi se n sn) H) (hdg : decode cc pc = .ok (.getfield 19, 3)) (kk : W p l e R s m args below meth c H locs cells slots Q (F0 m (pc + 3) ls (.ref (b 4) :: rest))) : W p l e R s m args below meth c H locs cells slots Q (F0 m pc ls (.ref (b 0) :: rest)) :=
  va_get (D := D) (ci := 1) (v := .ref (b 4)) (C := RX1) (T := TX1) (N := 6) S.1 S.2.1 S.2.2.2.2 in_X1 S.2.2.2.1 hK hP 0 rfl rfl 4 (by decide) (S.2.2.2.2 _ q173) (fun _ h9 => h9) rfl hdg kk
theorem gM_sn (S : CallFix p m c cc nL s args lw_all RX1) (hK : va_K D vwCl (tM cI cZ) s) (hP : va_P D vwCl (mw b cI cZ on rl fi se n sn) H) (hdg : decode cc pc = .ok (.getfield 22, 3)) (kk : W p l e R s m args below meth c H locs cells slots Q (F0 m (pc + 3) ls (.ref (b 5) :: rest))) : W p l e R s m args below meth c H locs cells slots Q (F0 m pc ls (.ref (b 0) :: rest)) :=
  va_get (D := D) (ci := 1) (v := .ref (b 5)) (C := RX1) (T := TX1) (N := 6) S.1 S.2.1 S.2.2.2.2 in_X1 S.2.2.2.1 hK hP 0 rfl rfl 5 (by decide) (S.2.2.2.2 _ q174) (fun _ h9 => h9) rfl hdg kk
theorem lX_on (S : CallFix p m c cc nL s args lw_all RX0) (hK : va_K D vwCl (tX cS cB) s) (hP : va_P D vwCl (xw a cS cB on bk rl fi se n th le) H) {i : Nat} (hi : i < 24) (hdg : decode cc pc = .ok (.saload, 1)) (kk : W p l e R s m args below meth c H locs cells slots Q (F0 m (pc + 1) ls (.int (nI (on i)) :: rest))) : W p l e R s m args below meth c H locs cells slots Q (F0 m pc ls (.int (nI i) :: .ref (a 1) :: rest)) :=
  va_sald S.1 S.2.1 hK hP 1 0 rfl rfl (vp_in_nI hi (by decide)) hdg (by rw [nI_clamp (by omega)]; exact kk)
theorem sX_on (S : CallFix p m c cc nL s args lw_all RX0) (hK : va_K D vwCl (tX cS cB) s) (hP : va_P D vwCl (xw a cS cB on bk rl fi se n th le) H) (hA : xAp a 8) (hS : va_S (xA a 8) H0 H locs) {i : Nat} {x : Nat} (hi : i < 24) (hx : x < 256) (hdg : decode cc pc = .ok (.sastore, 1)) (kk : ∀ (H1 : Heap) (locs1 : List Loc), va_P D vwCl (xw a cS cB (va_up on i x) bk rl fi se n th le) H1 → va_S (xA a 8) H0 H1 locs1 → W p l e R s m args below meth c H1 locs1 cells slots Q (F0 m (pc + 1) ls rest)) : W p l e R s m args below meth c H locs cells slots Q (F0 m pc ls (.int (nI x) :: .int (nI i) :: .ref (a 1) :: rest)) :=
  va_sast S.1 S.2.1 hK hP (xD hA) hS 1 0 rfl rfl (vp_in_nI hi (by decide)) hdg (fun H1 locs1 hP1 _ hS1 => kk H1 locs1 (by rw [nI_clamp (by omega), nm_sv hx, up_nI] at hP1; exact hP1) hS1)
theorem lX_bk (S : CallFix p m c cc nL s args lw_all RX0) (hK : va_K D vwCl (tX cS cB) s) (hP : va_P D vwCl (xw a cS cB on bk rl fi se n th le) H) {i : Nat} (hi : i < 24) (hdg : decode cc pc = .ok (.saload, 1)) (kk : W p l e R s m args below meth c H locs cells slots Q (F0 m (pc + 1) ls (.int (nI (bk i)) :: rest))) : W p l e R s m args below meth c H locs cells slots Q (F0 m pc ls (.int (nI i) :: .ref (a 2) :: rest)) :=
  va_sald S.1 S.2.1 hK hP 2 0 rfl rfl (vp_in_nI hi (by decide)) hdg (by rw [nI_clamp (by omega)]; exact kk)
theorem sX_bk (S : CallFix p m c cc nL s args lw_all RX0) (hK : va_K D vwCl (tX cS cB) s) (hP : va_P D vwCl (xw a cS cB on bk rl fi se n th le) H) (hA : xAp a 8) (hS : va_S (xA a 8) H0 H locs) {i : Nat} {x : Nat} (hi : i < 24) (hx : x < 256) (hdg : decode cc pc = .ok (.sastore, 1)) (kk : ∀ (H1 : Heap) (locs1 : List Loc), va_P D vwCl (xw a cS cB on (va_up bk i x) rl fi se n th le) H1 → va_S (xA a 8) H0 H1 locs1 → W p l e R s m args below meth c H1 locs1 cells slots Q (F0 m (pc + 1) ls rest)) : W p l e R s m args below meth c H locs cells slots Q (F0 m pc ls (.int (nI x) :: .int (nI i) :: .ref (a 2) :: rest)) :=
  va_sast S.1 S.2.1 hK hP (xD hA) hS 2 0 rfl rfl (vp_in_nI hi (by decide)) hdg (fun H1 locs1 hP1 _ hS1 => kk H1 locs1 (by rw [nI_clamp (by omega), nm_sv hx, up_nI] at hP1; exact hP1) hS1)
theorem lX_rl (S : CallFix p m c cc nL s args lw_all RX0) (hK : va_K D vwCl (tX cS cB) s) (hP : va_P D vwCl (xw a cS cB on bk rl fi se n th le) H) {i : Nat} (hi : i < 5) (hdg : decode cc pc = .ok (.baload, 1)) (kk : W p l e R s m args below meth c H locs cells slots Q (F0 m (pc + 1) ls (.int (nI (rl i)) :: rest))) : W p l e R s m args below meth c H locs cells slots Q (F0 m pc ls (.int (nI i) :: .ref (a 3) :: rest)) :=
  va_bald S.1 S.2.1 hK hP 3 1 rfl rfl (vp_in_nI hi (by decide)) hdg (by rw [nI_clamp (by omega)]; exact kk)
theorem sX_rl (S : CallFix p m c cc nL s args lw_all RX0) (hK : va_K D vwCl (tX cS cB) s) (hP : va_P D vwCl (xw a cS cB on bk rl fi se n th le) H) (hA : xAp a 8) (hS : va_S (xA a 8) H0 H locs) {i : Nat} {x : Nat} (hi : i < 5) (hx : x < 128) (hdg : decode cc pc = .ok (.bastore, 1)) (kk : ∀ (H1 : Heap) (locs1 : List Loc), va_P D vwCl (xw a cS cB on bk (va_up rl i x) fi se n th le) H1 → va_S (xA a 8) H0 H1 locs1 → W p l e R s m args below meth c H1 locs1 cells slots Q (F0 m (pc + 1) ls rest)) : W p l e R s m args below meth c H locs cells slots Q (F0 m pc ls (.int (nI x) :: .int (nI i) :: .ref (a 3) :: rest)) :=
  va_bast S.1 S.2.1 hK hP (xD hA) hS 3 1 rfl rfl (vp_in_nI hi (by decide)) hdg (fun H1 locs1 hP1 _ hS1 => kk H1 locs1 (by rw [nI_clamp (by omega), nm_bv hx, up_nI] at hP1; exact hP1) hS1)
theorem lX_fi (S : CallFix p m c cc nL s args lw_all RX0) (hK : va_K D vwCl (tX cS cB) s) (hP : va_P D vwCl (xw a cS cB on bk rl fi se n th le) H) {i : Nat} (hi : i < 5) (hdg : decode cc pc = .ok (.baload, 1)) (kk : W p l e R s m args below meth c H locs cells slots Q (F0 m (pc + 1) ls (.int (nI (fi i)) :: rest))) : W p l e R s m args below meth c H locs cells slots Q (F0 m pc ls (.int (nI i) :: .ref (a 4) :: rest)) :=
  va_bald S.1 S.2.1 hK hP 4 1 rfl rfl (vp_in_nI hi (by decide)) hdg (by rw [nI_clamp (by omega)]; exact kk)
theorem sX_fi (S : CallFix p m c cc nL s args lw_all RX0) (hK : va_K D vwCl (tX cS cB) s) (hP : va_P D vwCl (xw a cS cB on bk rl fi se n th le) H) (hA : xAp a 8) (hS : va_S (xA a 8) H0 H locs) {i : Nat} {x : Nat} (hi : i < 5) (hx : x < 128) (hdg : decode cc pc = .ok (.bastore, 1)) (kk : ∀ (H1 : Heap) (locs1 : List Loc), va_P D vwCl (xw a cS cB on bk rl (va_up fi i x) se n th le) H1 → va_S (xA a 8) H0 H1 locs1 → W p l e R s m args below meth c H1 locs1 cells slots Q (F0 m (pc + 1) ls rest)) : W p l e R s m args below meth c H locs cells slots Q (F0 m pc ls (.int (nI x) :: .int (nI i) :: .ref (a 4) :: rest)) :=
  va_bast S.1 S.2.1 hK hP (xD hA) hS 4 1 rfl rfl (vp_in_nI hi (by decide)) hdg (fun H1 locs1 hP1 _ hS1 => kk H1 locs1 (by rw [nI_clamp (by omega), nm_bv hx, up_nI] at hP1; exact hP1) hS1)
theorem lX_se (S : CallFix p m c cc nL s args lw_all RX0) (hK : va_K D vwCl (tX cS cB) s) (hP : va_P D vwCl (xw a cS cB on bk rl fi se n th le) H) {i : Nat} (hi : i < 5) (hdg : decode cc pc = .ok (.baload, 1)) (kk : W p l e R s m args below meth c H locs cells slots Q (F0 m (pc + 1) ls (.int (nI (se i)) :: rest))) : W p l e R s m args below meth c H locs cells slots Q (F0 m pc ls (.int (nI i) :: .ref (a 5) :: rest)) :=
  va_bald S.1 S.2.1 hK hP 5 1 rfl rfl (vp_in_nI hi (by decide)) hdg (by rw [nI_clamp (by omega)]; exact kk)
theorem sX_se (S : CallFix p m c cc nL s args lw_all RX0) (hK : va_K D vwCl (tX cS cB) s) (hP : va_P D vwCl (xw a cS cB on bk rl fi se n th le) H) (hA : xAp a 8) (hS : va_S (xA a 8) H0 H locs) {i : Nat} {x : Nat} (hi : i < 5) (hx : x < 128) (hdg : decode cc pc = .ok (.bastore, 1)) (kk : ∀ (H1 : Heap) (locs1 : List Loc), va_P D vwCl (xw a cS cB on bk rl fi (va_up se i x) n th le) H1 → va_S (xA a 8) H0 H1 locs1 → W p l e R s m args below meth c H1 locs1 cells slots Q (F0 m (pc + 1) ls rest)) : W p l e R s m args below meth c H locs cells slots Q (F0 m pc ls (.int (nI x) :: .int (nI i) :: .ref (a 5) :: rest)) :=
  va_bast S.1 S.2.1 hK hP (xD hA) hS 5 1 rfl rfl (vp_in_nI hi (by decide)) hdg (fun H1 locs1 hP1 _ hS1 => kk H1 locs1 (by rw [nI_clamp (by omega), nm_bv hx, up_nI] at hP1; exact hP1) hS1)
theorem lX_th (S : CallFix p m c cc nL s args lw_all RX0) (hK : va_K D vwCl (tX cS cB) s) (hP : va_P D vwCl (xw a cS cB on bk rl fi se n th le) H) {i : Nat} (hi : i < 4) (hdg : decode cc pc = .ok (.baload, 1)) (kk : W p l e R s m args below meth c H locs cells slots Q (F0 m (pc + 1) ls (.int (nI (th i)) :: rest))) : W p l e R s m args below meth c H locs cells slots Q (F0 m pc ls (.int (nI i) :: .ref (a 6) :: rest)) :=
  va_bald S.1 S.2.1 hK hP 6 1 rfl rfl (vp_in_nI hi (by decide)) hdg (by rw [nI_clamp (by omega)]; exact kk)
theorem sX_th (S : CallFix p m c cc nL s args lw_all RX0) (hK : va_K D vwCl (tX cS cB) s) (hP : va_P D vwCl (xw a cS cB on bk rl fi se n th le) H) (hA : xAp a 8) (hS : va_S (xA a 8) H0 H locs) {i : Nat} {x : Nat} (hi : i < 4) (hx : x < 128) (hdg : decode cc pc = .ok (.bastore, 1)) (kk : ∀ (H1 : Heap) (locs1 : List Loc), va_P D vwCl (xw a cS cB on bk rl fi se n (va_up th i x) le) H1 → va_S (xA a 8) H0 H1 locs1 → W p l e R s m args below meth c H1 locs1 cells slots Q (F0 m (pc + 1) ls rest)) : W p l e R s m args below meth c H locs cells slots Q (F0 m pc ls (.int (nI x) :: .int (nI i) :: .ref (a 6) :: rest)) :=
  va_bast S.1 S.2.1 hK hP (xD hA) hS 6 1 rfl rfl (vp_in_nI hi (by decide)) hdg (fun H1 locs1 hP1 _ hS1 => kk H1 locs1 (by rw [nI_clamp (by omega), nm_bv hx, up_nI] at hP1; exact hP1) hS1)
theorem lX_le (S : CallFix p m c cc nL s args lw_all RX0) (hK : va_K D vwCl (tX cS cB) s) (hP : va_P D vwCl (xw a cS cB on bk rl fi se n th le) H) {i : Nat} (hi : i < 4) (hdg : decode cc pc = .ok (.baload, 1)) (kk : W p l e R s m args below meth c H locs cells slots Q (F0 m (pc + 1) ls (.int (nI (le i)) :: rest))) : W p l e R s m args below meth c H locs cells slots Q (F0 m pc ls (.int (nI i) :: .ref (a 7) :: rest)) :=
  va_bald S.1 S.2.1 hK hP 7 1 rfl rfl (vp_in_nI hi (by decide)) hdg (by rw [nI_clamp (by omega)]; exact kk)
theorem sX_le (S : CallFix p m c cc nL s args lw_all RX0) (hK : va_K D vwCl (tX cS cB) s) (hP : va_P D vwCl (xw a cS cB on bk rl fi se n th le) H) (hA : xAp a 8) (hS : va_S (xA a 8) H0 H locs) {i : Nat} {x : Nat} (hi : i < 4) (hx : x < 128) (hdg : decode cc pc = .ok (.bastore, 1)) (kk : ∀ (H1 : Heap) (locs1 : List Loc), va_P D vwCl (xw a cS cB on bk rl fi se n th (va_up le i x)) H1 → va_S (xA a 8) H0 H1 locs1 → W p l e R s m args below meth c H1 locs1 cells slots Q (F0 m (pc + 1) ls rest)) : W p l e R s m args below meth c H locs cells slots Q (F0 m pc ls (.int (nI x) :: .int (nI i) :: .ref (a 7) :: rest)) :=
  va_bast S.1 S.2.1 hK hP (xD hA) hS 7 1 rfl rfl (vp_in_nI hi (by decide)) hdg (fun H1 locs1 hP1 _ hS1 => kk H1 locs1 (by rw [nI_clamp (by omega), nm_bv hx, up_nI] at hP1; exact hP1) hS1)
theorem lM_on (S : CallFix p m c cc nL s args lw_all RX1) (hK : va_K D vwCl (tM cI cZ) s) (hP : va_P D vwCl (mw b cI cZ on rl fi se n sn) H) {i : Nat} (hi : i < 24) (hdg : decode cc pc = .ok (.iaload, 1)) (kk : W p l e R s m args below meth c H locs cells slots Q (F0 m (pc + 1) ls (.int (nI (on i)) :: rest))) : W p l e R s m args below meth c H locs cells slots Q (F0 m pc ls (.int (nI i) :: .ref (b 1) :: rest)) :=
  va_iald S.1 S.2.1 hK hP 1 0 rfl rfl (vp_in_nI hi (by decide)) hdg (by rw [nI_clamp (by omega)]; exact kk)
theorem sM_on (S : CallFix p m c cc nL s args lw_all RX1) (hK : va_K D vwCl (tM cI cZ) s) (hP : va_P D vwCl (mw b cI cZ on rl fi se n sn) H) (hA : xAp b 6) (hS : va_S (xA b 6) H0 H locs) {i : Nat} {x : Nat} (hi : i < 24) (hdg : decode cc pc = .ok (.iastore, 1)) (kk : ∀ (H1 : Heap) (locs1 : List Loc), va_P D vwCl (mw b cI cZ (va_up on i x) rl fi se n sn) H1 → va_S (xA b 6) H0 H1 locs1 → W p l e R s m args below meth c H1 locs1 cells slots Q (F0 m (pc + 1) ls rest)) : W p l e R s m args below meth c H locs cells slots Q (F0 m pc ls (.int (nI x) :: .int (nI i) :: .ref (b 1) :: rest)) :=
  va_iast S.1 S.2.1 hK hP (mD hA) hS 1 0 rfl rfl (vp_in_nI hi (by decide)) hdg (fun H1 locs1 hP1 _ hS1 => kk H1 locs1 (by rw [nI_clamp (by omega), up_nI] at hP1; exact hP1) hS1)
theorem lM_rl (S : CallFix p m c cc nL s args lw_all RX1) (hK : va_K D vwCl (tM cI cZ) s) (hP : va_P D vwCl (mw b cI cZ on rl fi se n sn) H) {i : Nat} (hi : i < 5) (hdg : decode cc pc = .ok (.iaload, 1)) (kk : W p l e R s m args below meth c H locs cells slots Q (F0 m (pc + 1) ls (.int (nI (rl i)) :: rest))) : W p l e R s m args below meth c H locs cells slots Q (F0 m pc ls (.int (nI i) :: .ref (b 2) :: rest)) :=
  va_iald S.1 S.2.1 hK hP 2 0 rfl rfl (vp_in_nI hi (by decide)) hdg (by rw [nI_clamp (by omega)]; exact kk)
theorem sM_rl (S : CallFix p m c cc nL s args lw_all RX1) (hK : va_K D vwCl (tM cI cZ) s) (hP : va_P D vwCl (mw b cI cZ on rl fi se n sn) H) (hA : xAp b 6) (hS : va_S (xA b 6) H0 H locs) {i : Nat} {x : Nat} (hi : i < 5) (hdg : decode cc pc = .ok (.iastore, 1)) (kk : ∀ (H1 : Heap) (locs1 : List Loc), va_P D vwCl (mw b cI cZ on (va_up rl i x) fi se n sn) H1 → va_S (xA b 6) H0 H1 locs1 → W p l e R s m args below meth c H1 locs1 cells slots Q (F0 m (pc + 1) ls rest)) : W p l e R s m args below meth c H locs cells slots Q (F0 m pc ls (.int (nI x) :: .int (nI i) :: .ref (b 2) :: rest)) :=
  va_iast S.1 S.2.1 hK hP (mD hA) hS 2 0 rfl rfl (vp_in_nI hi (by decide)) hdg (fun H1 locs1 hP1 _ hS1 => kk H1 locs1 (by rw [nI_clamp (by omega), up_nI] at hP1; exact hP1) hS1)
theorem lM_fi (S : CallFix p m c cc nL s args lw_all RX1) (hK : va_K D vwCl (tM cI cZ) s) (hP : va_P D vwCl (mw b cI cZ on rl fi se n sn) H) {i : Nat} (hi : i < 5) (hdg : decode cc pc = .ok (.iaload, 1)) (kk : W p l e R s m args below meth c H locs cells slots Q (F0 m (pc + 1) ls (.int (nI (fi i)) :: rest))) : W p l e R s m args below meth c H locs cells slots Q (F0 m pc ls (.int (nI i) :: .ref (b 3) :: rest)) :=
  va_iald S.1 S.2.1 hK hP 3 0 rfl rfl (vp_in_nI hi (by decide)) hdg (by rw [nI_clamp (by omega)]; exact kk)
theorem sM_fi (S : CallFix p m c cc nL s args lw_all RX1) (hK : va_K D vwCl (tM cI cZ) s) (hP : va_P D vwCl (mw b cI cZ on rl fi se n sn) H) (hA : xAp b 6) (hS : va_S (xA b 6) H0 H locs) {i : Nat} {x : Nat} (hi : i < 5) (hdg : decode cc pc = .ok (.iastore, 1)) (kk : ∀ (H1 : Heap) (locs1 : List Loc), va_P D vwCl (mw b cI cZ on rl (va_up fi i x) se n sn) H1 → va_S (xA b 6) H0 H1 locs1 → W p l e R s m args below meth c H1 locs1 cells slots Q (F0 m (pc + 1) ls rest)) : W p l e R s m args below meth c H locs cells slots Q (F0 m pc ls (.int (nI x) :: .int (nI i) :: .ref (b 3) :: rest)) :=
  va_iast S.1 S.2.1 hK hP (mD hA) hS 3 0 rfl rfl (vp_in_nI hi (by decide)) hdg (fun H1 locs1 hP1 _ hS1 => kk H1 locs1 (by rw [nI_clamp (by omega), up_nI] at hP1; exact hP1) hS1)
theorem lM_se (S : CallFix p m c cc nL s args lw_all RX1) (hK : va_K D vwCl (tM cI cZ) s) (hP : va_P D vwCl (mw b cI cZ on rl fi se n sn) H) {i : Nat} (hi : i < 5) (hdg : decode cc pc = .ok (.iaload, 1)) (kk : W p l e R s m args below meth c H locs cells slots Q (F0 m (pc + 1) ls (.int (nI (se i)) :: rest))) : W p l e R s m args below meth c H locs cells slots Q (F0 m pc ls (.int (nI i) :: .ref (b 4) :: rest)) :=
  va_iald S.1 S.2.1 hK hP 4 0 rfl rfl (vp_in_nI hi (by decide)) hdg (by rw [nI_clamp (by omega)]; exact kk)
theorem sM_se (S : CallFix p m c cc nL s args lw_all RX1) (hK : va_K D vwCl (tM cI cZ) s) (hP : va_P D vwCl (mw b cI cZ on rl fi se n sn) H) (hA : xAp b 6) (hS : va_S (xA b 6) H0 H locs) {i : Nat} {x : Nat} (hi : i < 5) (hdg : decode cc pc = .ok (.iastore, 1)) (kk : ∀ (H1 : Heap) (locs1 : List Loc), va_P D vwCl (mw b cI cZ on rl fi (va_up se i x) n sn) H1 → va_S (xA b 6) H0 H1 locs1 → W p l e R s m args below meth c H1 locs1 cells slots Q (F0 m (pc + 1) ls rest)) : W p l e R s m args below meth c H locs cells slots Q (F0 m pc ls (.int (nI x) :: .int (nI i) :: .ref (b 4) :: rest)) :=
  va_iast S.1 S.2.1 hK hP (mD hA) hS 4 0 rfl rfl (vp_in_nI hi (by decide)) hdg (fun H1 locs1 hP1 _ hS1 => kk H1 locs1 (by rw [nI_clamp (by omega), up_nI] at hP1; exact hP1) hS1)
theorem lM_sn (S : CallFix p m c cc nL s args lw_all RX1) (hK : va_K D vwCl (tM cI cZ) s) (hP : va_P D vwCl (mw b cI cZ on rl fi se n sn) H) {i : Nat} (hi : i < 64) (hdg : decode cc pc = .ok (.baload, 1)) (kk : W p l e R s m args below meth c H locs cells slots Q (F0 m (pc + 1) ls (.int (bI (sn i)) :: rest))) : W p l e R s m args below meth c H locs cells slots Q (F0 m pc ls (.int (nI i) :: .ref (b 5) :: rest)) :=
  va_zald S.1 S.2.1 hK hP 5 1 rfl rfl (vp_in_nI hi (by decide)) hdg (by rw [nI_clamp (by omega)]; exact kk)
theorem sM_sn (S : CallFix p m c cc nL s args lw_all RX1) (hK : va_K D vwCl (tM cI cZ) s) (hP : va_P D vwCl (mw b cI cZ on rl fi se n sn) H) (hA : xAp b 6) (hS : va_S (xA b 6) H0 H locs) {i : Nat} {x : Bool} (hi : i < 64) (hdg : decode cc pc = .ok (.bastore, 1)) (kk : ∀ (H1 : Heap) (locs1 : List Loc), va_P D vwCl (mw b cI cZ on rl fi se n (va_up sn i x)) H1 → va_S (xA b 6) H0 H1 locs1 → W p l e R s m args below meth c H1 locs1 cells slots Q (F0 m (pc + 1) ls rest)) : W p l e R s m args below meth c H locs cells slots Q (F0 m pc ls (.int (bI x) :: .int (nI i) :: .ref (b 5) :: rest)) :=
  va_zast S.1 S.2.1 hK hP (mD hA) hS 5 1 rfl rfl (vp_in_nI hi (by decide)) hdg (fun H1 locs1 hP1 _ hS1 => kk H1 locs1 (by rw [nI_clamp (by omega), bI_nar, up_bI] at hP1; exact hP1) hS1)
theorem sX_n (S : CallFix p m c cc nL s args lw_all RX0) (hK : va_K D vwCl (tX cS cB) s) (hP : va_P D vwCl (xw a cS cB on bk rl fi se n th le) H) (hA : xAp a 8) (hS : va_S (xA a 8) H0 H locs) {x : Nat} (hdg : decode cc pc = .ok (.putfield 50, 3)) (kk : ∀ (H1 : Heap) (locs1 : List Loc), va_P D vwCl (xw a cS cB on bk rl fi se x th le) H1 → va_S (xA a 8) H0 H1 locs1 → W p l e R s m args below meth c H1 locs1 cells slots Q (F0 m (pc + 3) ls rest)) : W p l e R s m args below meth c H locs cells slots Q (F0 m pc ls (.int (nI x) :: .ref (a 0) :: rest)) :=
  va_put (D := D) (ci := 0) (v := .int (nI x)) (ty := .int) (C := RX0) (T := TX0) (N := 8) S.1 S.2.1 S.2.2.2.2 in_X0 tyX0 tyX0_ok nmX0 S.2.2.2.1 hK hP (xD hA) hS 0 rfl rfl 5 (by decide) (S.2.2.2.2 _ q31) (fun _ h9 => h9) rfl (by decide +kernel) rfl rfl (Nat.le_of_ble_eq_true rfl) hdg (fun H1 locs1 hP1 _ hS1 => kk H1 locs1 hP1 hS1)
theorem sM_n (S : CallFix p m c cc nL s args lw_all RX1) (hK : va_K D vwCl (tM cI cZ) s) (hP : va_P D vwCl (mw b cI cZ on rl fi se n sn) H) (hA : xAp b 6) (hS : va_S (xA b 6) H0 H locs) {x : Nat} (hdg : decode cc pc = .ok (.putfield 40, 3)) (kk : ∀ (H1 : Heap) (locs1 : List Loc), va_P D vwCl (mw b cI cZ on rl fi se x sn) H1 → va_S (xA b 6) H0 H1 locs1 → W p l e R s m args below meth c H1 locs1 cells slots Q (F0 m (pc + 3) ls rest)) : W p l e R s m args below meth c H locs cells slots Q (F0 m pc ls (.int (nI x) :: .ref (b 0) :: rest)) :=
  va_put (D := D) (ci := 1) (v := .int (nI x)) (ty := .int) (C := RX1) (T := TX1) (N := 6) S.1 S.2.1 S.2.2.2.2 in_X1 tyX1 tyX1_ok nmX1 S.2.2.2.1 hK hP (mD hA) hS 0 rfl rfl 1 (by decide) (S.2.2.2.2 _ q170) (fun _ h9 => h9) rfl (by decide +kernel) rfl rfl (Nat.le_of_ble_eq_true rfl) hdg (fun H1 locs1 hP1 _ hS1 => kk H1 locs1 hP1 hS1)
end Rows
/-! calls -/
section Calls
variable {p : Program} {l : Launch} {e : Env} {R : Room} {s : State} {m : MethodId} {args : Array Value} {below : List Frame} {meth : Method} {c : Code} {H H0 : Heap} {locs : List Loc} {cells slots : Nat} {Q : State → Prop} {cc bytes : ByteArray} {pc nL maxL index k : Nat} {ls : Array Slot} {rest st As : List Value} {own : String} {y : MethodName} {ret : Option FieldType} {rm : Room}
variable {D : va_G} {a b : Nat → Nat} {cS cB cI cZ : ClassId} {on bk rl fi se th le on' bk' rl' fi' se' : Nat → Nat} {n n' : Nat} {sn : Nat → Bool}
/-- a static method that reads nothing -/
theorem ro_S {r : Int32} (S : CallFix p m c cc nL s args lw_all own) (hM : Met l y (ws_ y bytes maxL ret) rm (va_Pc As (fun U => U.heap = H ∧ True)) (QcRead r) 0 0 (fun _ => False)) (cw : CallB R s args own index y bytes maxL ret (ws_ y bytes maxL ret) rm 0 0 k ∧ (Cond.static y).before args s = true) (hn : As.length = k) (hsz : ls.size = nL) (hst : st = As.reverse ++ rest) (hW : (rest.map fun v => v.category).sum ≤ 8) (hdg : decode cc pc = .ok (.invokestatic index, 3)) (hf : cells ≤ R.cells ∧ slots ≤ R.slots)
    (kk : W p l e R s m args below meth c H locs cells slots Q (F0 m (pc + 3) ls (.int r :: rest))) : W p l e R s m args below meth c H locs cells slots Q (F0 m pc ls st) :=
  W.callR (W.runS S hM cw ⟨fun _ _ _ _ q => q, fun U hU _ => ⟨rfl, hU, trivial⟩⟩ rfl hn hsz hst (lv_room hW) hdg hf) kk
/-- a method of an object of X (or M) that writes nothing -/
theorem ro_V {r : Int32} {C : String} {T : u_T} {N ci hd : Nat} {fs : List Value} {tys tys' : List (ClassId × FieldType)} {ws : va_W} (S : CallFix p m c cc nL s args lw_all own) (hK : va_K D vwCl tys s) (hK' : va_K D vwCl tys' s) (hP : va_P D vwCl ws H) (hc : vwCl[ci]? = some (C, T, N)) (he : ws[0]? = some (hd, .inr (ci, fs))) (hM : Met l y (ws_ y bytes maxL ret) rm (va_Pc (.ref hd :: As) (fun U => U.heap = H ∧ va_K D vwCl tys U)) (QcRead r) 0 0 (fun _ => False)) (cw : CallW R s args own C index y bytes maxL ret (ws_ y bytes maxL ret) rm 0 0 k) (hn : As.length = k) (hsz : ls.size = nL) (hst : st = As.reverse ++ .ref hd :: rest) (hW : (rest.map fun v => v.category).sum ≤ 8) (hdg : decode cc pc = .ok (.invokevirtual index, 3)) (hf : cells ≤ R.cells ∧ slots ≤ R.slots)
    (kk : W p l e R s m args below meth c H locs cells slots Q (F0 m (pc + 3) ls (.int r :: rest))) : W p l e R s m args below meth c H locs cells slots Q (F0 m pc ls st) :=
  W.callR (W.runV S hM cw ⟨fun a U g mk q => ⟨q.1, q.2.1, va_K.moved (u := U) (U := U.calling g mk a) (Vm.Alike.refl U.vm) q.2.2⟩, va_recv hK' hP hc he, fun U hU hW => ⟨rfl, hU, va_K.moved hW.alike hK⟩⟩ rfl hn hsz hst (lv_room hW) hdg hf) kk
/-- what a method of X that writes leaves: its answer, the shared state; the scratch is anything -/
def XQ (D : va_G) (a : Nat → Nat) (cS cB : ClassId) (v : Option Value) (on bk rl fi se : Nat → Nat) (n : Nat) : Array Value → State → Outcome → State → Prop := fun _ st o t => o = .returned v ∧ (∃ th le, va_P D vwCl (xw a cS cB on bk rl fi se n th le) t.heap) ∧ va_F (xA a 8) st t
def MQ_ (D : va_G) (b : Nat → Nat) (cI cZ : ClassId) (v : Option Value) (on rl fi se : Nat → Nat) (n : Nat) : Array Value → State → Outcome → State → Prop := fun _ st o t => o = .returned v ∧ (∃ sn, va_P D vwCl (mw b cI cZ on rl fi se n sn) t.heap) ∧ va_F (xA b 6) st t
/-- a call of a method that writes only at the addresses A -/
theorem wr_V {A A0 : Nat → Prop} {v : Option Value} {PP : Heap → Prop} {C : String} {T : u_T} {N ci hd : Nat} {fs : List Value} {tys tys' : List (ClassId × FieldType)} {ws : va_W} (S : CallFix p m c cc nL s args lw_all own) (hK : va_K D vwCl tys s) (hK' : va_K D vwCl tys' s) (hP : va_P D vwCl ws H) (hc : vwCl[ci]? = some (C, T, N)) (he : ws[0]? = some (hd, .inr (ci, fs))) (hM : Met l y (ws_ y bytes maxL ret) rm (va_Pc (.ref hd :: As) (fun U => U.heap = H ∧ va_K D vwCl tys U)) (fun _ st o t => o = .returned v ∧ PP t.heap ∧ va_F A st t) 0 0 A) (cw : CallW R s args own C index y bytes maxL ret (ws_ y bytes maxL ret) rm 0 0 k) (hn : As.length = k) (hsz : ls.size = nL) (hst : st = As.reverse ++ .ref hd :: rest) (hW : (rest.map fun v => v.category).sum ≤ 8) (hdg : decode cc pc = .ok (.invokevirtual index, 3)) (hf : cells ≤ R.cells ∧ slots ≤ R.slots) (hS : va_S A0 H0 H locs) (hA : ∀ q, A q → A0 q)
    (kk : ∀ (H1 : Heap) (locs1 : List Loc), PP H1 → (∀ q : Nat, q < H.size → ¬ A q → H1[q]? = H[q]?) → va_S A0 H0 H1 locs1 → W p l e R s m args below meth c H1 locs1 cells slots Q (F0 m (pc + 3) ls (v.toList ++ rest))) : W p l e R s m args below meth c H locs cells slots Q (F0 m pc ls st) := by
  have hr := W.runV (p := p) (e := e) (below := below) (meth := meth) (locs := locs) (cells := cells) (slots := slots) (g := F0 m pc ls st) S hM cw ⟨fun a U g mk q => ⟨q.1, q.2.1, va_K.moved (u := U) (U := U.calling g mk a) (Vm.Alike.refl U.vm) q.2.2⟩, va_recv hK' hP hc he, fun U hU hW => ⟨rfl, hU, va_K.moved hW.alike hK⟩⟩ rfl hn hsz hst (lv_room hW) hdg hf
  intro T hT X
  obtain ⟨v', st₀, t, T', L, h0, X', hL, e1, ⟨hv, hp, hF⟩, stp⟩ := hr T hT X
  cases hv
  subst h0
  obtain ⟨t2, a1, b1⟩ := kk t.heap (locs ++ L) hp hF.2 ⟨Nat.le_trans hS.1 hF.1, fun q hq hn => by rw [hF.2 q (Nat.lt_of_lt_of_le hq hS.1) (fun h => hn (hA q h))]; exact hS.2.1 q hq hn, fun q hq => by
    rcases List.mem_append.mp hq with h | h
    · exact hS.2.2 q h
    · exact hA _ (hL q h)⟩ T' e1 X'
  exact ⟨t2, stp t2 a1, b1⟩
end Calls
section Ends
variable {p : Program} {l : Launch} {e : Env} {R : Room} {s : State} {m : MethodId} {args : Array Value} {below : List Frame} {meth : Method} {c : Code} {H H0 : Heap} {locs : List Loc} {cells slots : Nat} {Q : State → Prop} {cc : ByteArray} {pc nL : Nat} {ls : Array Slot} {rest : List Value} {own : String} {Ts : List Cond}
variable {D : va_G} {a b : Nat → Nat} {cS cB cI cZ : ClassId} {on bk rl fi se th le : Nat → Nat} {n : Nat} {sn : Nat → Bool}
theorem xr_int (S : CallFix p m c cc nL s args Ts own) (hr : meth.sig.returnType = some .int) (hlk : meth.locks = false) (hP : va_P D vwCl (xw a cS cB on bk rl fi se n th le) H) (hS : va_S (xA a 8) s.heap H locs) {v v' : Int32} (hv : v' = v) (hdg : decode cc pc = .ok (.ireturn, 1)) : W p l e R s m args below meth c H locs 0 0 (MQ below (XQ D a cS cB (some (.int v)) on bk rl fi se n) args s 0 0 (xA a 8)) (F0 m pc ls [.int v']) := by
  subst hv
  exact W.iret S.1 S.2.1 hr (fun t ht _ => ⟨rfl, ⟨th, le, by rw [ht]; exact hP⟩, hS.F ht⟩) hS.2.2 hdg hlk
theorem xr_bool (S : CallFix p m c cc nL s args Ts own) (hr : meth.sig.returnType = some .boolean) (hlk : meth.locks = false) (hP : va_P D vwCl (xw a cS cB on bk rl fi se n th le) H) (hS : va_S (xA a 8) s.heap H locs) {v v' : Bool} (hv : v' = v) (hdg : decode cc pc = .ok (.ireturn, 1)) : W p l e R s m args below meth c H locs 0 0 (MQ below (XQ D a cS cB (some (.int (bI v))) on bk rl fi se n) args s 0 0 (xA a 8)) (F0 m pc ls [.int (bI v')]) := by
  subst hv
  exact W.zret S.1 S.2.1 hr (bI_z v') (fun t ht _ => ⟨rfl, ⟨th, le, by rw [ht]; exact hP⟩, hS.F ht⟩) hS.2.2 hdg hlk
theorem xr_void (S : CallFix p m c cc nL s args Ts own) (hr : meth.sig.returnType = none) (hlk : meth.locks = false) (hP : va_P D vwCl (xw a cS cB on bk rl fi se n th le) H) (hS : va_S (xA a 8) s.heap H locs) (hdg : decode cc pc = .ok (.return_, 1)) : W p l e R s m args below meth c H locs 0 0 (MQ below (XQ D a cS cB none on bk rl fi se n) args s 0 0 (xA a 8)) (F0 m pc ls []) :=
  W.vret S.1 S.2.1 hr (fun t ht _ => ⟨rfl, ⟨th, le, by rw [ht]; exact hP⟩, hS.F ht⟩) hS.2.2 hdg hlk
theorem mr_int (S : CallFix p m c cc nL s args Ts own) (hr : meth.sig.returnType = some .int) (hlk : meth.locks = false) (hP : va_P D vwCl (mw b cI cZ on rl fi se n sn) H) (hS : va_S (xA b 6) s.heap H locs) {v v' : Int32} (hv : v' = v) (hdg : decode cc pc = .ok (.ireturn, 1)) : W p l e R s m args below meth c H locs 0 0 (MQ below (MQ_ D b cI cZ (some (.int v)) on rl fi se n) args s 0 0 (xA b 6)) (F0 m pc ls [.int v']) := by
  subst hv
  exact W.iret S.1 S.2.1 hr (fun t ht _ => ⟨rfl, ⟨sn, by rw [ht]; exact hP⟩, hS.F ht⟩) hS.2.2 hdg hlk
theorem mr_bool (S : CallFix p m c cc nL s args Ts own) (hr : meth.sig.returnType = some .boolean) (hlk : meth.locks = false) (hP : va_P D vwCl (mw b cI cZ on rl fi se n sn) H) (hS : va_S (xA b 6) s.heap H locs) {v v' : Bool} (hv : v' = v) (hdg : decode cc pc = .ok (.ireturn, 1)) : W p l e R s m args below meth c H locs 0 0 (MQ below (MQ_ D b cI cZ (some (.int (bI v))) on rl fi se n) args s 0 0 (xA b 6)) (F0 m pc ls [.int (bI v')]) := by
  subst hv
  exact W.zret S.1 S.2.1 hr (bI_z v') (fun t ht _ => ⟨rfl, ⟨sn, by rw [ht]; exact hP⟩, hS.F ht⟩) hS.2.2 hdg hlk
end Ends
end
section
set_option maxRecDepth 100000
/-! loops with one, two, three, four numbers -/
section Loops
variable {p : Program} {l : Launch} {e : Env} {R : Room} {s : State} {m : MethodId} {args : Array Value} {below : List Frame} {meth : Method} {c : Code} {H : Heap} {locs : List Loc} {cells slots : Nat} {Q : State → Prop} {cc : ByteArray} {pc nL : Nat} {ls : Array Slot}
theorem loopR2 {α β : Type} (I : α → β → Array Slot → Prop) (μ : α → β → Nat)
    (step : ∀ (x : α) (y : β) (ls : Array Slot), I x y ls → (∀ (x' : α) (y' : β) (ls' : Array Slot), I x' y' ls' → μ x' y' < μ x y → W p l e R s m args below meth c H locs cells slots Q (F0 m pc ls' [])) → W p l e R s m args below meth c H locs cells slots Q (F0 m pc ls [])) :
    ∀ (x : α) (y : β) (ls : Array Slot), I x y ls → W p l e R s m args below meth c H locs cells slots Q (F0 m pc ls []) :=
  fun x y ls h => loopR (α := α × β) (fun q => I q.1 q.2) (fun q => μ q.1 q.2) (fun q ls h ih => step q.1 q.2 ls h (fun x' y' ls' => ih (x', y') ls')) (x, y) ls h
theorem loopR3 {α β γ : Type} (I : α → β → γ → Array Slot → Prop) (μ : α → β → γ → Nat)
    (step : ∀ (x : α) (y : β) (z : γ) (ls : Array Slot), I x y z ls → (∀ (x' : α) (y' : β) (z' : γ) (ls' : Array Slot), I x' y' z' ls' → μ x' y' z' < μ x y z → W p l e R s m args below meth c H locs cells slots Q (F0 m pc ls' [])) → W p l e R s m args below meth c H locs cells slots Q (F0 m pc ls [])) :
    ∀ (x : α) (y : β) (z : γ) (ls : Array Slot), I x y z ls → W p l e R s m args below meth c H locs cells slots Q (F0 m pc ls []) :=
  fun x y z ls h => loopR2 (α := α) (β := β × γ) (fun a q => I a q.1 q.2) (fun a q => μ a q.1 q.2) (fun a q ls h ih => step a q.1 q.2 ls h (fun x' y' z' ls' => ih x' (y', z') ls')) x (y, z) ls h
theorem loopR4 {α β γ δ : Type} (I : α → β → γ → δ → Array Slot → Prop) (μ : α → β → γ → δ → Nat)
    (step : ∀ (x : α) (y : β) (z : γ) (u : δ) (ls : Array Slot), I x y z u ls → (∀ (x' : α) (y' : β) (z' : γ) (u' : δ) (ls' : Array Slot), I x' y' z' u' ls' → μ x' y' z' u' < μ x y z u → W p l e R s m args below meth c H locs cells slots Q (F0 m pc ls' [])) → W p l e R s m args below meth c H locs cells slots Q (F0 m pc ls [])) :
    ∀ (x : α) (y : β) (z : γ) (u : δ) (ls : Array Slot), I x y z u ls → W p l e R s m args below meth c H locs cells slots Q (F0 m pc ls []) :=
  fun x y z u ls h => loopR3 (α := α) (β := β) (γ := γ × δ) (fun a b q => I a b q.1 q.2) (fun a b q => μ a b q.1 q.2) (fun a b q ls h ih => step a b q.1 q.2 ls h (fun x' y' z' u' ls' => ih x' y' (z', u') ls')) x y (z, u) ls h
theorem loopW2 {α β : Type} (I : α → β → Heap → List Loc → Array Slot → Prop) (μ : α → β → Nat)
    (step : ∀ (x : α) (y : β) (H : Heap) (locs : List Loc) (ls : Array Slot), I x y H locs ls → (∀ (x' : α) (y' : β) (H' : Heap) (locs' : List Loc) (ls' : Array Slot), I x' y' H' locs' ls' → μ x' y' < μ x y → W p l e R s m args below meth c H' locs' cells slots Q (F0 m pc ls' [])) → W p l e R s m args below meth c H locs cells slots Q (F0 m pc ls [])) :
    ∀ (x : α) (y : β) (H : Heap) (locs : List Loc) (ls : Array Slot), I x y H locs ls → W p l e R s m args below meth c H locs cells slots Q (F0 m pc ls []) :=
  fun x y H locs ls h => loopW (α := α × β) (fun q => I q.1 q.2) (fun q => μ q.1 q.2) (fun q H locs ls h ih => step q.1 q.2 H locs ls h (fun x' y' H' locs' ls' => ih (x', y') H' locs' ls')) (x, y) H locs ls h
theorem loopW3 {α β γ : Type} (I : α → β → γ → Heap → List Loc → Array Slot → Prop) (μ : α → β → γ → Nat)
    (step : ∀ (x : α) (y : β) (z : γ) (H : Heap) (locs : List Loc) (ls : Array Slot), I x y z H locs ls → (∀ (x' : α) (y' : β) (z' : γ) (H' : Heap) (locs' : List Loc) (ls' : Array Slot), I x' y' z' H' locs' ls' → μ x' y' z' < μ x y z → W p l e R s m args below meth c H' locs' cells slots Q (F0 m pc ls' [])) → W p l e R s m args below meth c H locs cells slots Q (F0 m pc ls [])) :
    ∀ (x : α) (y : β) (z : γ) (H : Heap) (locs : List Loc) (ls : Array Slot), I x y z H locs ls → W p l e R s m args below meth c H locs cells slots Q (F0 m pc ls []) :=
  fun x y z H locs ls h => loopW2 (α := α) (β := β × γ) (fun a q => I a q.1 q.2) (fun a q => μ a q.1 q.2) (fun a q H locs ls h ih => step a q.1 q.2 H locs ls h (fun x' y' z' H' locs' ls' => ih x' (y', z') H' locs' ls')) x (y, z) H locs ls h
end Loops
theorem bit_bI (w y : Nat) : nI (w / 2 ^ y % 2) = bI (w.testBit y) := by
  rw [bit_div]
  cases w.testBit y <;> rfl
theorem ne_true {b : Bool} (h : ¬ b = true) : b = false := by cases b <;> simp_all
theorem cnt_bit (w k : Nat) : cnt (fun y => w.testBit y) (k + 1) = cnt (fun y => w.testBit y) k + w / 2 ^ k % 2 := by
  rw [bit_div]
  cases h : w.testBit k <;> simp [cnt, h]
end
section
set_option maxRecDepth 100000
section Methods
variable {p : Program} {l : Launch} {e : Env} {R : Room} {s : State} {m : MethodId} {args : Array Value} {below : List Frame} {meth : Method} {c : Code} {H H0 : Heap} {locs : List Loc} {cells slots : Nat} {Q : State → Prop} {cc : ByteArray} {pc nL : Nat} {ls : Array Slot} {rest : List Value} {own : String}
variable {D : va_G} {a b : Nat → Nat} {cS cB cI cZ : ClassId} {on bk rl fi se th le : Nat → Nat} {n : Nat} {sn : Nat → Bool}
theorem mX_isRelation (l : Launch) (p0 : Int32)  : Met l yX0_isRelation (ws_ yX0_isRelation cX0_isRelation 1 (some .boolean)) (rmK 0) (va_Pc [.int p0] (fun U => U.heap = H ∧ True)) (QcRead ((bI (inR p0 3)))) 0 0 (fun _ => False) := by
  refine anyMet (by decide) (Nat.le_of_ble_eq_true rfl) (fun p e s m below meth c S hr hlk hin hH hK ls hl => ?_)
  have S : CallFix p m c cX0_isRelation 1 s _ lw_all RX0 := S
  have hl : lv_has ls 1 [(0, .int p0)] := hl
  refine lv_iload_n S.1 S.2.1 dX0_isRelation_0 rfl (lv_at hl 0 rfl) ?_
  refine lv_if_lt (tgt := 13) S.1 S.2.1 dX0_isRelation_1 (by decide) (fun h1 => ?_) (fun h1 => ?_)
  · refine lv_iconst (v := (bI false)) S.1 S.2.1 dX0_isRelation_13 (by decide) ?_
    exact r_bool S hr hlk hH (inR_neg h1).symm dX0_isRelation_14
  · refine lv_iload_n S.1 S.2.1 dX0_isRelation_4 rfl (lv_at hl 0 rfl) ?_
    refine lv_iconst (v := (nI 3)) S.1 S.2.1 dX0_isRelation_5 (by decide) ?_
    refine lv_icmp_ge (tgt := 13) S.1 S.2.1 dX0_isRelation_6 (by decide) (fun h2 => ?_) (fun h2 => ?_)
    · refine lv_iconst (v := (bI false)) S.1 S.2.1 dX0_isRelation_13 (by decide) ?_
      exact r_bool S hr hlk hH (inR_big h2).symm dX0_isRelation_14
    · refine lv_iconst (v := (bI true)) S.1 S.2.1 dX0_isRelation_9 (by decide) ?_
      refine lv_goto (tgt := 14) S.1 S.2.1 dX0_isRelation_10 (by decide) ?_
      exact r_bool S hr hlk hH (inR_in h1 h2).symm dX0_isRelation_14
theorem kX_isRelation (S : CallFix p m c cc nL s args lw_all RX0) {p0 : Int32}  (hsz : ls.size = nL) (hdg : decode cc pc = .ok (.invokestatic 32, 3)) (kk : W p l e R s m args below meth c H locs cells slots Q (F0 m (pc + 3) ls (.int (bI (inR p0 3)) :: rest))) (hR : (rmK 0).frames + 1 ≤ R.frames ∧ 8 + (1 + 11) + (rmK 0).locals ≤ R.locals := by decide) (hW : (rest.map fun v => v.category).sum ≤ 8 := by exact Nat.le_of_ble_eq_true rfl) (hf : cells ≤ R.cells ∧ slots ≤ R.slots := by first | exact ⟨Nat.zero_le _, Nat.zero_le _⟩ | decide) : W p l e R s m args below meth c H locs cells slots Q (F0 m pc ls (.int p0 :: rest)) :=
  ro_S S (mX_isRelation l p0) (va_cwS 1 S.2.2.2.2 (lw_S q57 q58 q16 q59) rfl rfl rfl (by decide +kernel) hR) rfl hsz rfl hW hdg hf kk
theorem mX_isThing (l : Launch) (p0 : Int32)  : Met l yX0_isThing (ws_ yX0_isThing cX0_isThing 1 (some .boolean)) (rmK 0) (va_Pc [.int p0] (fun U => U.heap = H ∧ True)) (QcRead ((bI (inR p0 8)))) 0 0 (fun _ => False) := by
  refine anyMet (by decide) (Nat.le_of_ble_eq_true rfl) (fun p e s m below meth c S hr hlk hin hH hK ls hl => ?_)
  have S : CallFix p m c cX0_isThing 1 s _ lw_all RX0 := S
  have hl : lv_has ls 1 [(0, .int p0)] := hl
  refine lv_iload_n S.1 S.2.1 dX0_isThing_0 rfl (lv_at hl 0 rfl) ?_
  refine lv_if_lt (tgt := 14) S.1 S.2.1 dX0_isThing_1 (by decide) (fun h1 => ?_) (fun h1 => ?_)
  · refine lv_iconst (v := (bI false)) S.1 S.2.1 dX0_isThing_14 (by decide) ?_
    exact r_bool S hr hlk hH (inR_neg h1).symm dX0_isThing_15
  · refine lv_iload_n S.1 S.2.1 dX0_isThing_4 rfl (lv_at hl 0 rfl) ?_
    refine lv_bipush (v := (nI 8)) S.1 S.2.1 dX0_isThing_5 (by decide) ?_
    refine lv_icmp_ge (tgt := 14) S.1 S.2.1 dX0_isThing_7 (by decide) (fun h2 => ?_) (fun h2 => ?_)
    · refine lv_iconst (v := (bI false)) S.1 S.2.1 dX0_isThing_14 (by decide) ?_
      exact r_bool S hr hlk hH (inR_big h2).symm dX0_isThing_15
    · refine lv_iconst (v := (bI true)) S.1 S.2.1 dX0_isThing_10 (by decide) ?_
      refine lv_goto (tgt := 15) S.1 S.2.1 dX0_isThing_11 (by decide) ?_
      exact r_bool S hr hlk hH (inR_in h1 h2).symm dX0_isThing_15
theorem kX_isThing (S : CallFix p m c cc nL s args lw_all RX0) {p0 : Int32}  (hsz : ls.size = nL) (hdg : decode cc pc = .ok (.invokestatic 36, 3)) (kk : W p l e R s m args below meth c H locs cells slots Q (F0 m (pc + 3) ls (.int (bI (inR p0 8)) :: rest))) (hR : (rmK 0).frames + 1 ≤ R.frames ∧ 8 + (1 + 11) + (rmK 0).locals ≤ R.locals := by decide) (hW : (rest.map fun v => v.category).sum ≤ 8 := by exact Nat.le_of_ble_eq_true rfl) (hf : cells ≤ R.cells ∧ slots ≤ R.slots := by first | exact ⟨Nat.zero_le _, Nat.zero_le _⟩ | decide) : W p l e R s m args below meth c H locs cells slots Q (F0 m pc ls (.int p0 :: rest)) :=
  ro_S S (mX_isThing l p0) (va_cwS 1 S.2.2.2.2 (lw_S q60 q61 q16 q62) rfl rfl rfl (by decide +kernel) hR) rfl hsz rfl hW hdg hf kk
theorem mX_isVariable (l : Launch) (p0 : Int32)  : Met l yX0_isVariable (ws_ yX0_isVariable cX0_isVariable 1 (some .boolean)) (rmK 0) (va_Pc [.int p0] (fun U => U.heap = H ∧ True)) (QcRead ((bI (inR p0 4)))) 0 0 (fun _ => False) := by
  refine anyMet (by decide) (Nat.le_of_ble_eq_true rfl) (fun p e s m below meth c S hr hlk hin hH hK ls hl => ?_)
  have S : CallFix p m c cX0_isVariable 1 s _ lw_all RX0 := S
  have hl : lv_has ls 1 [(0, .int p0)] := hl
  refine lv_iload_n S.1 S.2.1 dX0_isVariable_0 rfl (lv_at hl 0 rfl) ?_
  refine lv_if_lt (tgt := 13) S.1 S.2.1 dX0_isVariable_1 (by decide) (fun h1 => ?_) (fun h1 => ?_)
  · refine lv_iconst (v := (bI false)) S.1 S.2.1 dX0_isVariable_13 (by decide) ?_
    exact r_bool S hr hlk hH (inR_neg h1).symm dX0_isVariable_14
  · refine lv_iload_n S.1 S.2.1 dX0_isVariable_4 rfl (lv_at hl 0 rfl) ?_
    refine lv_iconst (v := (nI 4)) S.1 S.2.1 dX0_isVariable_5 (by decide) ?_
    refine lv_icmp_ge (tgt := 13) S.1 S.2.1 dX0_isVariable_6 (by decide) (fun h2 => ?_) (fun h2 => ?_)
    · refine lv_iconst (v := (bI false)) S.1 S.2.1 dX0_isVariable_13 (by decide) ?_
      exact r_bool S hr hlk hH (inR_big h2).symm dX0_isVariable_14
    · refine lv_iconst (v := (bI true)) S.1 S.2.1 dX0_isVariable_9 (by decide) ?_
      refine lv_goto (tgt := 14) S.1 S.2.1 dX0_isVariable_10 (by decide) ?_
      exact r_bool S hr hlk hH (inR_in h1 h2).symm dX0_isVariable_14
theorem kX_isVariable (S : CallFix p m c cc nL s args lw_all RX0) {p0 : Int32}  (hsz : ls.size = nL) (hdg : decode cc pc = .ok (.invokestatic 47, 3)) (kk : W p l e R s m args below meth c H locs cells slots Q (F0 m (pc + 3) ls (.int (bI (inR p0 4)) :: rest))) (hR : (rmK 0).frames + 1 ≤ R.frames ∧ 8 + (1 + 11) + (rmK 0).locals ≤ R.locals := by decide) (hW : (rest.map fun v => v.category).sum ≤ 8 := by exact Nat.le_of_ble_eq_true rfl) (hf : cells ≤ R.cells ∧ slots ≤ R.slots := by first | exact ⟨Nat.zero_le _, Nat.zero_le _⟩ | decide) : W p l e R s m args below meth c H locs cells slots Q (F0 m pc ls (.int p0 :: rest)) :=
  ro_S S (mX_isVariable l p0) (va_cwS 1 S.2.2.2.2 (lw_S q78 q79 q16 q80) rfl rfl rfl (by decide +kernel) hR) rfl hsz rfl hW hdg hf kk
theorem mX_in (l : Launch) (w : Nat) (y : Nat) (hw : w < 2 ^ 31) (hy : y < 32) : Met l yX0_in (ws_ yX0_in cX0_in 2 (some .boolean)) (rmK 0) (va_Pc [.int (nI w), .int (nI y)] (fun U => U.heap = H ∧ True)) (QcRead ((bI (w.testBit y)))) 0 0 (fun _ => False) := by
  refine anyMet (by decide) (Nat.le_of_ble_eq_true rfl) (fun p e s m below meth c S hr hlk hin hH hK ls hl => ?_)
  have S : CallFix p m c cX0_in 2 s _ lw_all RX0 := S
  have hl : lv_has ls 2 [(0, .int (nI w)), (1, .int (nI y))] := hl
  refine lv_iload_n S.1 S.2.1 dX0_in_0 rfl (lv_at hl 0 rfl) ?_
  refine lv_iload_n S.1 S.2.1 dX0_in_1 rfl (lv_at hl 1 rfl) ?_
  refine n_ishr S (by omega) (by omega) dX0_in_2 ?_
  refine lv_iconst (v := (nI 1)) S.1 S.2.1 dX0_in_3 (by decide) ?_
  refine n_iand1 S (Nat.lt_of_le_of_lt (Nat.div_le_self _ _) (by omega)) dX0_in_4 ?_
  refine n_top (y := (bI (w.testBit y))) (bit_bI w y) ?_
  refine z_eq (tgt := 12) S dX0_in_5 (by decide) (fun h1 => ?_) (fun h1 => ?_)
  · refine lv_iconst (v := (bI false)) S.1 S.2.1 dX0_in_12 (by decide) ?_
    exact r_bool S hr hlk hH h1.symm dX0_in_13
  · refine lv_iconst (v := (bI true)) S.1 S.2.1 dX0_in_8 (by decide) ?_
    refine lv_goto (tgt := 13) S.1 S.2.1 dX0_in_9 (by decide) ?_
    exact r_bool S hr hlk hH h1.symm dX0_in_13
theorem kX_in (S : CallFix p m c cc nL s args lw_all RX0) {w : Nat} {y : Nat} (hw : w < 2 ^ 31) (hy : y < 32) (hsz : ls.size = nL) (hdg : decode cc pc = .ok (.invokestatic 54, 3)) (kk : W p l e R s m args below meth c H locs cells slots Q (F0 m (pc + 3) ls (.int (bI (w.testBit y)) :: rest))) (hR : (rmK 0).frames + 1 ≤ R.frames ∧ 8 + (2 + 11) + (rmK 0).locals ≤ R.locals := by decide) (hW : (rest.map fun v => v.category).sum ≤ 8 := by exact Nat.le_of_ble_eq_true rfl) (hf : cells ≤ R.cells ∧ slots ≤ R.slots := by first | exact ⟨Nat.zero_le _, Nat.zero_le _⟩ | decide) : W p l e R s m args below meth c H locs cells slots Q (F0 m pc ls (.int (nI y) :: .int (nI w) :: rest)) :=
  ro_S S (mX_in l w y hw hy) (va_cwS 2 S.2.2.2.2 (lw_S q112 q113 q16 q114) rfl rfl rfl (by decide +kernel) hR) rfl hsz rfl hW hdg hf kk
theorem mX_ones (l : Launch) (w : Nat) (hw : w < 256) : Met l yX0_ones (ws_ yX0_ones cX0_ones 3 (some .int)) (rmK 0) (va_Pc [.int (nI w)] (fun U => U.heap = H ∧ True)) (QcRead ((nI (cnt (fun y => w.testBit y) 8)))) 0 0 (fun _ => False) := by
  refine anyMet (by decide) (Nat.le_of_ble_eq_true rfl) (fun p e s m below meth c S hr hlk hin hH hK ls hl => ?_)
  have S : CallFix p m c cX0_ones 3 s _ lw_all RX0 := S
  have hl : lv_has ls 3 [(0, .int (nI w))] := hl
  refine lv_iconst (v := (nI 0)) S.1 S.2.1 dX0_ones_0 (by decide) ?_
  refine lv_istore_n (lv' := [(1, .int (nI 0)), (0, .int (nI w))]) S.1 S.2.1 dX0_ones_1 rfl hl (by decide) rfl (fun ls hl => ?_)
  refine lv_iconst (v := (nI 0)) S.1 S.2.1 dX0_ones_2 (by decide) ?_
  refine lv_istore_n (lv' := [(2, .int (nI 0)), (1, .int (nI 0)), (0, .int (nI w))]) S.1 S.2.1 dX0_ones_3 rfl hl (by decide) rfl (fun ls hl => ?_)
  refine loopR (α := Nat) (fun k ls => lv_has ls 3 [(2, .int (nI k)), (1, .int (nI (cnt (fun y => w.testBit y) k))), (0, .int (nI w))] ∧ k ≤ 8) (fun k => 8 - k) (fun k ls hI ih => ?_) 0 ls ⟨lv_sub hl [0, 1, 2] rfl, by decide⟩
  obtain ⟨hl, hk⟩ := hI
  refine lv_iload_n S.1 S.2.1 dX0_ones_4 rfl (lv_at hl 0 rfl) ?_
  refine lv_bipush (v := (nI 8)) S.1 S.2.1 dX0_ones_5 (by decide) ?_
  refine n_ge (tgt := 24) S dX0_ones_7 (by decide) (fun h1 => ?_) (fun h1 => ?_)
  · have e : k = 8 := by omega
    subst e
    refine lv_iload_n S.1 S.2.1 dX0_ones_24 rfl (lv_at hl 1 rfl) ?_
    exact r_int S hr hlk hH rfl dX0_ones_25
  · refine lv_iload_n S.1 S.2.1 dX0_ones_10 rfl (lv_at hl 1 rfl) ?_
    refine lv_iload_n S.1 S.2.1 dX0_ones_11 rfl (lv_at hl 2 rfl) ?_
    refine lv_iload_n S.1 S.2.1 dX0_ones_12 rfl (lv_at hl 0 rfl) ?_
    refine n_ishr S (by omega) (by omega) dX0_ones_13 ?_
    refine lv_iconst (v := (nI 1)) S.1 S.2.1 dX0_ones_14 (by decide) ?_
    refine n_iand1 S (Nat.lt_of_le_of_lt (Nat.div_le_self _ _) (by omega)) dX0_ones_15 ?_
    refine n_iadd S dX0_ones_16 ?_
    refine lv_istore_n (lv' := [(1, .int (nI ((cnt (fun y => w.testBit y) k) + ((w / 2 ^ k) % 2)))), (2, .int (nI k)), (0, .int (nI w))]) S.1 S.2.1 dX0_ones_17 rfl hl (by decide) rfl (fun ls hl => ?_)
    refine n_iinc (x := k) (k := 1) (lv' := [(2, .int (nI (k + 1))), (1, .int (nI ((cnt (fun y => w.testBit y) k) + ((w / 2 ^ k) % 2)))), (0, .int (nI w))]) S dX0_ones_18 hl rfl (by decide) rfl (fun ls hl => ?_)
    refine lv_goto (tgt := 4) S.1 S.2.1 dX0_ones_21 (by decide) ?_
    refine ih (k + 1) ls ⟨?_, by omega⟩ (by omega)
    rw [cnt_bit]
    exact lv_sub hl [0, 1, 2] rfl
theorem kX_ones (S : CallFix p m c cc nL s args lw_all RX0) {w : Nat} (hw : w < 256) (hsz : ls.size = nL) (hdg : decode cc pc = .ok (.invokestatic 43, 3)) (kk : W p l e R s m args below meth c H locs cells slots Q (F0 m (pc + 3) ls (.int (nI (cnt (fun y => w.testBit y) 8)) :: rest))) (hR : (rmK 0).frames + 1 ≤ R.frames ∧ 8 + (3 + 11) + (rmK 0).locals ≤ R.locals := by decide) (hW : (rest.map fun v => v.category).sum ≤ 8 := by exact Nat.le_of_ble_eq_true rfl) (hf : cells ≤ R.cells ∧ slots ≤ R.slots := by first | exact ⟨Nat.zero_le _, Nat.zero_le _⟩ | decide) : W p l e R s m args below meth c H locs cells slots Q (F0 m pc ls (.int (nI w) :: rest)) :=
  ro_S S (mX_ones l w hw) (va_cwS 1 S.2.2.2.2 (lw_S q71 q72 q16 q73) rfl rfl rfl (by decide +kernel) hR) rfl hsz rfl hW hdg hf kk
theorem mX_from (l : Launch) (w : Nat) (x : Nat) (hw : w < 256) (hx : x ≤ 8) : Met l yX0_from (ws_ yX0_from cX0_from 3 (some .int)) (rmK 1) (va_Pc [.int (nI w), .int (nI x)] (fun U => U.heap = H ∧ True)) (QcRead ((nI (lst (fun y => w.testBit y) (8 - x) x)))) 0 0 (fun _ => False) := by
  refine anyMet (by decide) (Nat.le_of_ble_eq_true rfl) (fun p e s m below meth c S hr hlk hin hH hK ls hl => ?_)
  have S : CallFix p m c cX0_from 3 s _ lw_all RX0 := S
  have hl : lv_has ls 3 [(0, .int (nI w)), (1, .int (nI x))] := hl
  refine lv_iload_n S.1 S.2.1 dX0_from_0 rfl (lv_at hl 1 rfl) ?_
  refine lv_istore_n (lv' := [(2, .int (nI x)), (0, .int (nI w)), (1, .int (nI x))]) S.1 S.2.1 dX0_from_1 rfl hl (by decide) rfl (fun ls hl => ?_)
  refine loopR (α := Nat) (fun z ls => lv_has ls 3 [(2, .int (nI z)), (0, .int (nI w)), (1, .int (nI x))] ∧ z ≤ 8 ∧ lst (fun y => w.testBit y) (8 - z) z = lst (fun y => w.testBit y) (8 - x) x) (fun z => 8 - z) (fun z ls hI ih => ?_) x ls ⟨lv_sub hl [0, 1, 2] rfl, hx, rfl⟩
  obtain ⟨hl, hz, he⟩ := hI
  refine lv_iload_n S.1 S.2.1 dX0_from_2 rfl (lv_at hl 0 rfl) ?_
  refine lv_bipush (v := (nI 8)) S.1 S.2.1 dX0_from_3 (by decide) ?_
  refine n_ge (tgt := 24) S dX0_from_5 (by decide) (fun h1 => ?_) (fun h1 => ?_)
  · have e9 : z = 8 := by omega
    subst e9
    refine lv_bipush (v := (nI 8)) S.1 S.2.1 dX0_from_24 (by decide) ?_
    exact r_int S hr hlk hH (by rw [← he]; rfl) dX0_from_26
  · have e8 : 8 - z = (8 - (z + 1)) + 1 := by omega
    refine lv_iload_n S.1 S.2.1 dX0_from_8 rfl (lv_at hl 1 rfl) ?_
    refine lv_iload_n S.1 S.2.1 dX0_from_9 rfl (lv_at hl 0 rfl) ?_
    refine kX_in S (w := w) (y := z) (by omega) (by omega) hl.1 dX0_from_10 ?_
    refine z_eq (tgt := 18) S dX0_from_13 (by decide) (fun h2 => ?_) (fun h2 => ?_)
    · refine n_iinc (x := z) (k := 0) (lv' := [(2, .int (nI (z + 1))), (0, .int (nI w)), (1, .int (nI x))]) S dX0_from_18 hl rfl (by decide) rfl (fun ls hl => ?_)
      refine lv_goto (tgt := 2) S.1 S.2.1 dX0_from_21 (by decide) ?_
      refine ih (z + 1) ls ⟨lv_sub hl [0, 1, 2] rfl, by omega, ?_⟩ (by omega)
      rw [← he, e8, lst_f h2]
    · refine lv_iload_n S.1 S.2.1 dX0_from_16 rfl (lv_at hl 0 rfl) ?_
      exact r_int S hr hlk hH (by rw [← he, e8, lst_t h2]) dX0_from_17
theorem kX_from (S : CallFix p m c cc nL s args lw_all RX0) {w : Nat} {x : Nat} (hw : w < 256) (hx : x ≤ 8) (hsz : ls.size = nL) (hdg : decode cc pc = .ok (.invokestatic 62, 3)) (kk : W p l e R s m args below meth c H locs cells slots Q (F0 m (pc + 3) ls (.int (nI (lst (fun y => w.testBit y) (8 - x) x)) :: rest))) (hR : (rmK 1).frames + 1 ≤ R.frames ∧ 8 + (3 + 11) + (rmK 1).locals ≤ R.locals := by decide) (hW : (rest.map fun v => v.category).sum ≤ 8 := by exact Nat.le_of_ble_eq_true rfl) (hf : cells ≤ R.cells ∧ slots ≤ R.slots := by first | exact ⟨Nat.zero_le _, Nat.zero_le _⟩ | decide) : W p l e R s m args below meth c H locs cells slots Q (F0 m pc ls (.int (nI x) :: .int (nI w) :: rest)) :=
  ro_S S (mX_from l w x hw hx) (va_cwS 2 S.2.2.2.2 (lw_S q115 q116 q16 q117) rfl rfl rfl (by decide +kernel) hR) rfl hsz rfl hW hdg hf kk
theorem mX_digit (l : Launch) (k : Nat) (d : Nat) (hk : k < 2 ^ 31) (hd : d < 4) : Met l yX0_digit (ws_ yX0_digit cX0_digit 2 (some .int)) (rmK 0) (va_Pc [.int (nI k), .int (nI d)] (fun U => U.heap = H ∧ True)) (QcRead ((nI (dg k d)))) 0 0 (fun _ => False) := by
  refine anyMet (by decide) (Nat.le_of_ble_eq_true rfl) (fun p e s m below meth c S hr hlk hin hH hK ls hl => ?_)
  have S : CallFix p m c cX0_digit 2 s _ lw_all RX0 := S
  have hl : lv_has ls 2 [(0, .int (nI k)), (1, .int (nI d))] := hl
  refine lv_iload_n S.1 S.2.1 dX0_digit_0 rfl (lv_at hl 0 rfl) ?_
  refine lv_bipush (v := (nI 9)) S.1 S.2.1 dX0_digit_1 (by decide) ?_
  refine lv_iconst (v := (nI 3)) S.1 S.2.1 dX0_digit_3 (by decide) ?_
  refine lv_iload_n S.1 S.2.1 dX0_digit_4 rfl (lv_at hl 1 rfl) ?_
  refine n_imul S dX0_digit_5 ?_
  refine n_isub S (by omega) dX0_digit_6 ?_
  refine n_ishr S (by omega) (by omega) dX0_digit_7 ?_
  refine lv_bipush (v := (nI 7)) S.1 S.2.1 dX0_digit_8 (by decide) ?_
  refine n_iand7 S (Nat.lt_of_le_of_lt (Nat.div_le_self _ _) (by omega)) dX0_digit_10 ?_
  exact r_int S hr hlk hH rfl dX0_digit_11
theorem kX_digit (S : CallFix p m c cc nL s args lw_all RX0) {k : Nat} {d : Nat} (hk : k < 2 ^ 31) (hd : d < 4) (hsz : ls.size = nL) (hdg : decode cc pc = .ok (.invokestatic 76, 3)) (kk : W p l e R s m args below meth c H locs cells slots Q (F0 m (pc + 3) ls (.int (nI (dg k d)) :: rest))) (hR : (rmK 0).frames + 1 ≤ R.frames ∧ 8 + (2 + 11) + (rmK 0).locals ≤ R.locals := by decide) (hW : (rest.map fun v => v.category).sum ≤ 8 := by exact Nat.le_of_ble_eq_true rfl) (hf : cells ≤ R.cells ∧ slots ≤ R.slots := by first | exact ⟨Nat.zero_le _, Nat.zero_le _⟩ | decide) : W p l e R s m args below meth c H locs cells slots Q (F0 m pc ls (.int (nI d) :: .int (nI k) :: rest)) :=
  ro_S S (mX_digit l k d hk hd) (va_cwS 2 S.2.2.2.2 (lw_S q93 q94 q16 q95) rfl rfl rfl (by decide +kernel) hR) rfl hsz rfl hW hdg hf kk
theorem mX_has (l : Launch) (hP : va_P D vwCl (xw a cS cB on bk rl fi se n th le) H) (i : Nat) (d : Nat) (hI : XI on bk rl fi se n) (hi : i < 5) (hd : d < 4) : Met l yX0_has (ws_ yX0_has cX0_has 3 (some .boolean)) (rmK 0) (va_Pc [.ref (a 0), .int (nI i), .int (nI d)] (fun U => U.heap = H ∧ va_K D vwCl (tX cS cB) U)) (QcRead ((bI (usB fi se d i)))) 0 0 (fun _ => False) := by
  refine anyMet (by decide) (Nat.le_of_ble_eq_true rfl) (fun p e s m below meth c S hr hlk hin hH hK ls hl => ?_)
  have S : CallFix p m c cX0_has 3 s _ lw_all RX0 := S
  have hl : lv_has ls 3 [(0, .ref (a 0)), (1, .int (nI i)), (2, .int (nI d))] := hl
  obtain ⟨-, -, -, hfi, hse, hn5, -⟩ := hI
  have b1 := hfi i
  have b2 := hse i
  refine lv_aload_n S.1 S.2.1 dX0_has_0 rfl (lv_at hl 0 rfl) ?_
  refine gX_fi S hK hP dX0_has_1 ?_
  refine lv_iload_n S.1 S.2.1 dX0_has_4 rfl (lv_at hl 1 rfl) ?_
  refine lX_fi S hK hP (by omega) dX0_has_5 ?_
  refine lv_iload_n S.1 S.2.1 dX0_has_6 rfl (lv_at hl 2 rfl) ?_
  refine n_eq (tgt := 20) S dX0_has_7 (by decide) (fun h1 => ?_) (fun h1 => ?_)
  · refine lv_iconst (v := (bI true)) S.1 S.2.1 dX0_has_20 (by decide) ?_
    refine lv_goto (tgt := 25) S.1 S.2.1 dX0_has_21 (by decide) ?_
    exact r_bool S hr hlk hH (by simp [usB, h1]) dX0_has_25
  · refine lv_aload_n S.1 S.2.1 dX0_has_10 rfl (lv_at hl 0 rfl) ?_
    refine gX_se S hK hP dX0_has_11 ?_
    refine lv_iload_n S.1 S.2.1 dX0_has_14 rfl (lv_at hl 1 rfl) ?_
    refine lX_se S hK hP (by omega) dX0_has_15 ?_
    refine lv_iload_n S.1 S.2.1 dX0_has_16 rfl (lv_at hl 2 rfl) ?_
    refine n_ne (tgt := 24) S dX0_has_17 (by decide) (fun h2 => ?_) (fun h2 => ?_)
    · refine lv_iconst (v := (bI false)) S.1 S.2.1 dX0_has_24 (by decide) ?_
      exact r_bool S hr hlk hH (by simp [usB, h1, h2]) dX0_has_25
    · refine lv_iconst (v := (bI true)) S.1 S.2.1 dX0_has_20 (by decide) ?_
      refine lv_goto (tgt := 25) S.1 S.2.1 dX0_has_21 (by decide) ?_
      exact r_bool S hr hlk hH (by simp [usB, h2]) dX0_has_25
theorem kX_has (S : CallFix p m c cc nL s args lw_all RX0) (hK : va_K D vwCl (tX cS cB) s) (hP : va_P D vwCl (xw a cS cB on bk rl fi se n th le) H) {i : Nat} {d : Nat} (hI : XI on bk rl fi se n) (hi : i < 5) (hd : d < 4) (hsz : ls.size = nL) (hdg : decode cc pc = .ok (.invokevirtual 69, 3)) (kk : W p l e R s m args below meth c H locs cells slots Q (F0 m (pc + 3) ls (.int (bI (usB fi se d i)) :: rest))) (hR : (rmK 0).frames + 1 ≤ R.frames ∧ 8 + (3 + 11) + (rmK 0).locals ≤ R.locals := by decide) (hW : (rest.map fun v => v.category).sum ≤ 8 := by exact Nat.le_of_ble_eq_true rfl) (hf : cells ≤ R.cells ∧ slots ≤ R.slots := by first | exact ⟨Nat.zero_le _, Nat.zero_le _⟩ | decide) : W p l e R s m args below meth c H locs cells slots Q (F0 m pc ls (.int (nI d) :: .int (nI i) :: .ref (a 0) :: rest)) :=
  ro_V S hK hK hP (ci := 0) rfl rfl (mX_has l hP i d hI hi hd) (cwV 2 S.2.2.2.2 (lw_V q100 q102 qs3 q16 q103) rfl rfl rfl (by decide +kernel) hR) rfl hsz rfl hW hdg hf kk
theorem mX_nextOnDiagonal (l : Launch) (hP : va_P D vwCl (xw a cS cB on bk rl fi se n th le) H) (u : Nat) (x : Nat) (hI : XI on bk rl fi se n) (hu : u + 8 ≤ 24) (hx : x ≤ 8) : Met l yX0_nextOnDiagonal (ws_ yX0_nextOnDiagonal cX0_nextOnDiagonal 4 (some .int)) (rmK 1) (va_Pc [.ref (a 0), .int (nI u), .int (nI x)] (fun U => U.heap = H ∧ va_K D vwCl (tX cS cB) U)) (QcRead ((nI (lst (fun y => (on (u + y)).testBit y) (8 - x) x)))) 0 0 (fun _ => False) := by
  refine anyMet (by decide) (Nat.le_of_ble_eq_true rfl) (fun p e s m below meth c S hr hlk hin hH hK ls hl => ?_)
  have S : CallFix p m c cX0_nextOnDiagonal 4 s _ lw_all RX0 := S
  have hl : lv_has ls 4 [(0, .ref (a 0)), (1, .int (nI u)), (2, .int (nI x))] := hl
  have b1 := hI.1
  refine lv_iload_n S.1 S.2.1 dX0_nextOnDiagonal_0 rfl (lv_at hl 2 rfl) ?_
  refine lv_istore_n (lv' := [(3, .int (nI x)), (0, .ref (a 0)), (1, .int (nI u)), (2, .int (nI x))]) S.1 S.2.1 dX0_nextOnDiagonal_1 rfl hl (by decide) rfl (fun ls hl => ?_)
  refine loopR (α := Nat) (fun z ls => lv_has ls 4 [(3, .int (nI z)), (0, .ref (a 0)), (1, .int (nI u)), (2, .int (nI x))] ∧ z ≤ 8 ∧ lst (fun y => (on (u + y)).testBit y) (8 - z) z = lst (fun y => (on (u + y)).testBit y) (8 - x) x) (fun z => 8 - z) (fun z ls hJ ih => ?_) x ls ⟨lv_sub hl [0, 1, 2, 3] rfl, hx, rfl⟩
  obtain ⟨hl, hz, he⟩ := hJ
  refine lv_iload_n S.1 S.2.1 dX0_nextOnDiagonal_2 rfl (lv_at hl 0 rfl) ?_
  refine lv_bipush (v := (nI 8)) S.1 S.2.1 dX0_nextOnDiagonal_3 (by decide) ?_
  refine n_ge (tgt := 29) S dX0_nextOnDiagonal_5 (by decide) (fun h1 => ?_) (fun h1 => ?_)
  · have e9 : z = 8 := by omega
    subst e9
    refine lv_iload_n S.1 S.2.1 dX0_nextOnDiagonal_29 rfl (lv_at hl 0 rfl) ?_
    exact r_int S hr hlk hH (by rw [← he]; rfl) dX0_nextOnDiagonal_30
  · have e8 : 8 - z = (8 - (z + 1)) + 1 := by omega
    have b2 := b1 (u + z)
    refine lv_aload_n S.1 S.2.1 dX0_nextOnDiagonal_8 rfl (lv_at hl 1 rfl) ?_
    refine gX_on S hK hP dX0_nextOnDiagonal_9 ?_
    refine lv_iload_n S.1 S.2.1 dX0_nextOnDiagonal_12 rfl (lv_at hl 2 rfl) ?_
    refine lv_iload_n S.1 S.2.1 dX0_nextOnDiagonal_13 rfl (lv_at hl 0 rfl) ?_
    refine n_iadd S dX0_nextOnDiagonal_14 ?_
    refine lX_on S hK hP (by omega) dX0_nextOnDiagonal_15 ?_
    refine lv_iload_n S.1 S.2.1 dX0_nextOnDiagonal_16 rfl (lv_at hl 0 rfl) ?_
    refine kX_in S (w := on (u + z)) (y := z) (by omega) (by omega) hl.1 dX0_nextOnDiagonal_17 ?_
    refine z_ne (tgt := 29) S dX0_nextOnDiagonal_20 (by decide) (fun h2 => ?_) (fun h2 => ?_)
    · refine lv_iload_n S.1 S.2.1 dX0_nextOnDiagonal_29 rfl (lv_at hl 0 rfl) ?_
      exact r_int S hr hlk hH (by rw [← he, e8, lst_t (f := fun y => (on (u + y)).testBit y) h2]) dX0_nextOnDiagonal_30
    · refine n_iinc (x := z) (k := 0) (lv' := [(3, .int (nI (z + 1))), (0, .ref (a 0)), (1, .int (nI u)), (2, .int (nI x))]) S dX0_nextOnDiagonal_23 hl rfl (by decide) rfl (fun ls hl => ?_)
      refine lv_goto (tgt := 2) S.1 S.2.1 dX0_nextOnDiagonal_26 (by decide) ?_
      refine ih (z + 1) ls ⟨lv_sub hl [0, 1, 2, 3] rfl, by omega, ?_⟩ (by omega)
      rw [← he, e8, lst_f (f := fun y => (on (u + y)).testBit y) h2]
theorem kX_nextOnDiagonal (S : CallFix p m c cc nL s args lw_all RX0) (hK : va_K D vwCl (tX cS cB) s) (hP : va_P D vwCl (xw a cS cB on bk rl fi se n th le) H) {u : Nat} {x : Nat} (hI : XI on bk rl fi se n) (hu : u + 8 ≤ 24) (hx : x ≤ 8) (hsz : ls.size = nL) (hdg : decode cc pc = .ok (.invokevirtual 58, 3)) (kk : W p l e R s m args below meth c H locs cells slots Q (F0 m (pc + 3) ls (.int (nI (lst (fun y => (on (u + y)).testBit y) (8 - x) x)) :: rest))) (hR : (rmK 1).frames + 1 ≤ R.frames ∧ 8 + (4 + 11) + (rmK 1).locals ≤ R.locals := by decide) (hW : (rest.map fun v => v.category).sum ≤ 8 := by exact Nat.le_of_ble_eq_true rfl) (hf : cells ≤ R.cells ∧ slots ≤ R.slots := by first | exact ⟨Nat.zero_le _, Nat.zero_le _⟩ | decide) : W p l e R s m args below meth c H locs cells slots Q (F0 m pc ls (.int (nI x) :: .int (nI u) :: .ref (a 0) :: rest)) :=
  ro_V S hK hK hP (ci := 0) rfl rfl (mX_nextOnDiagonal l hP u x hI hu hx) (cwV 2 S.2.2.2.2 (lw_V q108 q110 qs5 q16 q111) rfl rfl rfl (by decide +kernel) hR) rfl hsz rfl hW hdg hf kk
theorem mX_nextWithAny (l : Launch) (hP : va_P D vwCl (xw a cS cB on bk rl fi se n th le) H) (u : Nat) (x : Nat) (f : Bool) (hI : XI on bk rl fi se n) (hu : u + 8 ≤ 24) (hx : x ≤ 8) : Met l yX0_nextWithAny (ws_ yX0_nextWithAny cX0_nextWithAny 5 (some .int)) (rmK 0) (va_Pc [.ref (a 0), .int (nI u), .int (nI x), .int (bI f)] (fun U => U.heap = H ∧ va_K D vwCl (tX cS cB) U)) (QcRead ((nI (lst (fun y => if f = true then on (u + y) != 0 else bk (u + y) != 0) (8 - x) x)))) 0 0 (fun _ => False) := by
  refine anyMet (by decide) (Nat.le_of_ble_eq_true rfl) (fun p e s m below meth c S hr hlk hin hH hK ls hl => ?_)
  have S : CallFix p m c cX0_nextWithAny 5 s _ lw_all RX0 := S
  have hl : lv_has ls 5 [(0, .ref (a 0)), (1, .int (nI u)), (2, .int (nI x)), (3, .int (bI f))] := hl
  have b1 := hI.1
  have b0 := hI.2.1
  refine lv_iload_n S.1 S.2.1 dX0_nextWithAny_0 rfl (lv_at hl 2 rfl) ?_
  refine lv_istore (lv' := [(4, .int (nI x)), (0, .ref (a 0)), (1, .int (nI u)), (2, .int (nI x)), (3, .int (bI f))]) S.1 S.2.1 dX0_nextWithAny_1 hl (by decide) rfl (fun ls hl => ?_)
  refine loopR (α := Nat) (fun z ls => lv_has ls 5 [(4, .int (nI z)), (0, .ref (a 0)), (1, .int (nI u)), (2, .int (nI x)), (3, .int (bI f))] ∧ z ≤ 8 ∧ lst (fun y => if f = true then on (u + y) != 0 else bk (u + y) != 0) (8 - z) z = lst (fun y => if f = true then on (u + y) != 0 else bk (u + y) != 0) (8 - x) x) (fun z => 8 - z) (fun z ls hJ ih => ?_) x ls ⟨lv_sub hl [0, 1, 2, 3, 4] rfl, hx, rfl⟩
  obtain ⟨hl, hz, he⟩ := hJ
  refine lv_iload S.1 S.2.1 dX0_nextWithAny_3 (lv_at hl 0 rfl) ?_
  refine lv_bipush (v := (nI 8)) S.1 S.2.1 dX0_nextWithAny_5 (by decide) ?_
  refine n_ge (tgt := 44) S dX0_nextWithAny_7 (by decide) (fun h1 => ?_) (fun h1 => ?_)
  · have e9 : z = 8 := by omega
    subst e9
    refine lv_iload S.1 S.2.1 dX0_nextWithAny_44 (lv_at hl 0 rfl) ?_
    exact r_int S hr hlk hH (by rw [← he]; rfl) dX0_nextWithAny_46
  · have e8 : 8 - z = (8 - (z + 1)) + 1 := by omega
    have b2 := b1 (u + z)
    have b3 := b0 (u + z)
    refine lv_iload_n S.1 S.2.1 dX0_nextWithAny_10 rfl (lv_at hl 4 rfl) ?_
    refine z_eq (tgt := 26) S dX0_nextWithAny_11 (by decide) (fun h2 => ?_) (fun h2 => ?_)
    · subst h2
      refine lv_aload_n S.1 S.2.1 dX0_nextWithAny_26 rfl (lv_at hl 1 rfl) ?_
      refine gX_bk S hK hP dX0_nextWithAny_27 ?_
      refine lv_iload_n S.1 S.2.1 dX0_nextWithAny_30 rfl (lv_at hl 2 rfl) ?_
      refine lv_iload S.1 S.2.1 dX0_nextWithAny_31 (lv_at hl 0 rfl) ?_
      refine n_iadd S dX0_nextWithAny_33 ?_
      refine lX_bk S hK hP (by omega) dX0_nextWithAny_34 ?_
      refine n_ifne (tgt := 44) S dX0_nextWithAny_35 (by decide) (fun h3 => ?_) (fun h3 => ?_)
      · refine lv_iload S.1 S.2.1 dX0_nextWithAny_44 (lv_at hl 0 rfl) ?_
        exact r_int S hr hlk hH (by rw [← he, e8, lst_t (f := fun y => if false = true then on (u + y) != 0 else bk (u + y) != 0) (by simp; omega)]) dX0_nextWithAny_46
      · refine n_iinc (x := z) (k := 0) (lv' := [(4, .int (nI (z + 1))), (0, .ref (a 0)), (1, .int (nI u)), (2, .int (nI x)), (3, .int (bI false))]) S dX0_nextWithAny_38 hl rfl (by decide) rfl (fun ls hl => ?_)
        refine lv_goto (tgt := 3) S.1 S.2.1 dX0_nextWithAny_41 (by decide) ?_
        refine ih (z + 1) ls ⟨lv_sub hl [0, 1, 2, 3, 4] rfl, by omega, ?_⟩ (by omega)
        rw [← he, e8, lst_f (f := fun y => if false = true then on (u + y) != 0 else bk (u + y) != 0) (by simp; omega)]
    · subst h2
      refine lv_aload_n S.1 S.2.1 dX0_nextWithAny_14 rfl (lv_at hl 1 rfl) ?_
      refine gX_on S hK hP dX0_nextWithAny_15 ?_
      refine lv_iload_n S.1 S.2.1 dX0_nextWithAny_18 rfl (lv_at hl 2 rfl) ?_
      refine lv_iload S.1 S.2.1 dX0_nextWithAny_19 (lv_at hl 0 rfl) ?_
      refine n_iadd S dX0_nextWithAny_21 ?_
      refine lX_on S hK hP (by omega) dX0_nextWithAny_22 ?_
      refine lv_goto (tgt := 35) S.1 S.2.1 dX0_nextWithAny_23 (by decide) ?_
      refine n_ifne (tgt := 44) S dX0_nextWithAny_35 (by decide) (fun h3 => ?_) (fun h3 => ?_)
      · refine lv_iload S.1 S.2.1 dX0_nextWithAny_44 (lv_at hl 0 rfl) ?_
        exact r_int S hr hlk hH (by rw [← he, e8, lst_t (f := fun y => if true = true then on (u + y) != 0 else bk (u + y) != 0) (by simp; omega)]) dX0_nextWithAny_46
      · refine n_iinc (x := z) (k := 0) (lv' := [(4, .int (nI (z + 1))), (0, .ref (a 0)), (1, .int (nI u)), (2, .int (nI x)), (3, .int (bI true))]) S dX0_nextWithAny_38 hl rfl (by decide) rfl (fun ls hl => ?_)
        refine lv_goto (tgt := 3) S.1 S.2.1 dX0_nextWithAny_41 (by decide) ?_
        refine ih (z + 1) ls ⟨lv_sub hl [0, 1, 2, 3, 4] rfl, by omega, ?_⟩ (by omega)
        rw [← he, e8, lst_f (f := fun y => if true = true then on (u + y) != 0 else bk (u + y) != 0) (by simp; omega)]
theorem kX_nextWithAny (S : CallFix p m c cc nL s args lw_all RX0) (hK : va_K D vwCl (tX cS cB) s) (hP : va_P D vwCl (xw a cS cB on bk rl fi se n th le) H) {u : Nat} {x : Nat} {f : Bool} (hI : XI on bk rl fi se n) (hu : u + 8 ≤ 24) (hx : x ≤ 8) (hsz : ls.size = nL) (hdg : decode cc pc = .ok (.invokevirtual 65, 3)) (kk : W p l e R s m args below meth c H locs cells slots Q (F0 m (pc + 3) ls (.int (nI (lst (fun y => if f = true then on (u + y) != 0 else bk (u + y) != 0) (8 - x) x)) :: rest))) (hR : (rmK 0).frames + 1 ≤ R.frames ∧ 8 + (5 + 11) + (rmK 0).locals ≤ R.locals := by decide) (hW : (rest.map fun v => v.category).sum ≤ 8 := by exact Nat.le_of_ble_eq_true rfl) (hf : cells ≤ R.cells ∧ slots ≤ R.slots := by first | exact ⟨Nat.zero_le _, Nat.zero_le _⟩ | decide) : W p l e R s m args below meth c H locs cells slots Q (F0 m pc ls (.int (bI f) :: .int (nI x) :: .int (nI u) :: .ref (a 0) :: rest)) :=
  ro_V S hK hK hP (ci := 0) rfl rfl (mX_nextWithAny l hP u x f hI hu hx) (cwV 3 S.2.2.2.2 (lw_V q118 q120 qs6 q16 q121) rfl rfl rfl (by decide +kernel) hR) rfl hsz rfl hW hdg hf kk
theorem mX_tightUpTo (l : Launch) (hP : va_P D vwCl (xw a cS cB on bk rl fi se n th le) H) (low : Nat) (d : Nat) (hw : low < 4096) (hd : d < 4) (ht : ∀ w, w < d + 1 → th w < 8) : Met l yX0_tightUpTo (ws_ yX0_tightUpTo cX0_tightUpTo 4 (some .boolean)) (rmK 1) (va_Pc [.ref (a 0), .int (nI low), .int (nI d)] (fun U => U.heap = H ∧ va_K D vwCl (tX cS cB) U)) (QcRead ((bI (allB (fun w => th w == dg low w) (d + 1))))) 0 0 (fun _ => False) := by
  refine anyMet (by decide) (Nat.le_of_ble_eq_true rfl) (fun p e s m below meth c S hr hlk hin hH hK ls hl => ?_)
  have S : CallFix p m c cX0_tightUpTo 4 s _ lw_all RX0 := S
  have hl : lv_has ls 4 [(0, .ref (a 0)), (1, .int (nI low)), (2, .int (nI d))] := hl
  refine lv_iconst (v := (nI 0)) S.1 S.2.1 dX0_tightUpTo_0 (by decide) ?_
  refine lv_istore_n (lv' := [(3, .int (nI 0)), (0, .ref (a 0)), (1, .int (nI low)), (2, .int (nI d))]) S.1 S.2.1 dX0_tightUpTo_1 rfl hl (by decide) rfl (fun ls hl => ?_)
  refine loopR (α := Nat) (fun k ls => lv_has ls 4 [(3, .int (nI k)), (0, .ref (a 0)), (1, .int (nI low)), (2, .int (nI d))] ∧ k ≤ d + 1 ∧ allB (fun w => th w == dg low w) k = true) (fun k => d + 1 - k) (fun k ls hJ ih => ?_) 0 ls ⟨lv_sub hl [0, 1, 2, 3] rfl, by omega, rfl⟩
  obtain ⟨hl, hk, he⟩ := hJ
  refine lv_iload_n S.1 S.2.1 dX0_tightUpTo_2 rfl (lv_at hl 0 rfl) ?_
  refine lv_iload_n S.1 S.2.1 dX0_tightUpTo_3 rfl (lv_at hl 3 rfl) ?_
  refine n_gt (tgt := 29) S dX0_tightUpTo_4 (by decide) (fun h1 => ?_) (fun h1 => ?_)
  · have e9 : k = d + 1 := by omega
    subst e9
    refine lv_iconst (v := (bI true)) S.1 S.2.1 dX0_tightUpTo_29 (by decide) ?_
    exact r_bool S hr hlk hH he.symm dX0_tightUpTo_30
  · have b1 := dg_lt low k
    have b2 := ht k (by omega)
    refine lv_aload_n S.1 S.2.1 dX0_tightUpTo_7 rfl (lv_at hl 1 rfl) ?_
    refine gX_th S hK hP dX0_tightUpTo_8 ?_
    refine lv_iload_n S.1 S.2.1 dX0_tightUpTo_11 rfl (lv_at hl 0 rfl) ?_
    refine lX_th S hK hP (by omega) dX0_tightUpTo_12 ?_
    refine lv_iload_n S.1 S.2.1 dX0_tightUpTo_13 rfl (lv_at hl 2 rfl) ?_
    refine lv_iload_n S.1 S.2.1 dX0_tightUpTo_14 rfl (lv_at hl 0 rfl) ?_
    refine kX_digit S (k := low) (d := k) (by omega) (by omega) hl.1 dX0_tightUpTo_15 ?_
    refine n_eq (tgt := 23) S dX0_tightUpTo_18 (by decide) (fun h2 => ?_) (fun h2 => ?_)
    · refine n_iinc (x := k) (k := 0) (lv' := [(3, .int (nI (k + 1))), (0, .ref (a 0)), (1, .int (nI low)), (2, .int (nI d))]) S dX0_tightUpTo_23 hl rfl (by decide) rfl (fun ls hl => ?_)
      refine lv_goto (tgt := 2) S.1 S.2.1 dX0_tightUpTo_26 (by decide) ?_
      exact ih (k + 1) ls ⟨lv_sub hl [0, 1, 2, 3] rfl, by omega, by simp [allB, he, h2]⟩ (by omega)
    · refine lv_iconst (v := (bI false)) S.1 S.2.1 dX0_tightUpTo_21 (by decide) ?_
      exact r_bool S hr hlk hH (by
        cases h9 : allB (fun w => th w == dg low w) (d + 1) with
        | false => rfl
        | true => exact absurd (by simpa using (allB_iff _ _).mp h9 k (by omega)) h2) dX0_tightUpTo_22
theorem kX_tightUpTo (S : CallFix p m c cc nL s args lw_all RX0) (hK : va_K D vwCl (tX cS cB) s) (hP : va_P D vwCl (xw a cS cB on bk rl fi se n th le) H) {low : Nat} {d : Nat} (hw : low < 4096) (hd : d < 4) (ht : ∀ w, w < d + 1 → th w < 8) (hsz : ls.size = nL) (hdg : decode cc pc = .ok (.invokevirtual 82, 3)) (kk : W p l e R s m args below meth c H locs cells slots Q (F0 m (pc + 3) ls (.int (bI (allB (fun w => th w == dg low w) (d + 1))) :: rest))) (hR : (rmK 1).frames + 1 ≤ R.frames ∧ 8 + (4 + 11) + (rmK 1).locals ≤ R.locals := by decide) (hW : (rest.map fun v => v.category).sum ≤ 8 := by exact Nat.le_of_ble_eq_true rfl) (hf : cells ≤ R.cells ∧ slots ≤ R.slots := by first | exact ⟨Nat.zero_le _, Nat.zero_le _⟩ | decide) : W p l e R s m args below meth c H locs cells slots Q (F0 m pc ls (.int (nI d) :: .int (nI low) :: .ref (a 0) :: rest)) :=
  ro_V S hK hK hP (ci := 0) rfl rfl (mX_tightUpTo l hP low d hw hd ht) (cwV 2 S.2.2.2.2 (lw_V q122 q124 qs7 q16 q125) rfl rfl rfl (by decide +kernel) hR) rfl hsz rfl hW hdg hf kk
theorem mX_code (l : Launch) (hP : va_P D vwCl (xw a cS cB on bk rl fi se n th le) H)   : Met l yX0_code (ws_ yX0_code cX0_code 1 (some .int)) (rmK 0) (va_Pc [.ref (a 0)] (fun U => U.heap = H ∧ va_K D vwCl (tX cS cB) U)) (QcRead ((nI (pv th 4)))) 0 0 (fun _ => False) := by
  refine anyMet (by decide) (Nat.le_of_ble_eq_true rfl) (fun p e s m below meth c S hr hlk hin hH hK ls hl => ?_)
  have S : CallFix p m c cX0_code 1 s _ lw_all RX0 := S
  have hl : lv_has ls 1 [(0, .ref (a 0))] := hl
  refine lv_aload_n S.1 S.2.1 dX0_code_0 rfl (lv_at hl 0 rfl) ?_
  refine gX_th S hK hP dX0_code_1 ?_
  refine lv_iconst (v := (nI 3)) S.1 S.2.1 dX0_code_4 (by decide) ?_
  refine lX_th S hK hP (by omega) dX0_code_5 ?_
  refine lv_bipush (v := (nI 8)) S.1 S.2.1 dX0_code_6 (by decide) ?_
  refine lv_aload_n S.1 S.2.1 dX0_code_8 rfl (lv_at hl 0 rfl) ?_
  refine gX_th S hK hP dX0_code_9 ?_
  refine lv_iconst (v := (nI 2)) S.1 S.2.1 dX0_code_12 (by decide) ?_
  refine lX_th S hK hP (by omega) dX0_code_13 ?_
  refine n_imul S dX0_code_14 ?_
  refine n_iadd S dX0_code_15 ?_
  refine lv_bipush (v := (nI 64)) S.1 S.2.1 dX0_code_16 (by decide) ?_
  refine lv_aload_n S.1 S.2.1 dX0_code_18 rfl (lv_at hl 0 rfl) ?_
  refine gX_th S hK hP dX0_code_19 ?_
  refine lv_iconst (v := (nI 1)) S.1 S.2.1 dX0_code_22 (by decide) ?_
  refine lX_th S hK hP (by omega) dX0_code_23 ?_
  refine n_imul S dX0_code_24 ?_
  refine n_iadd S dX0_code_25 ?_
  refine lv_sipush (v := (nI 512)) S.1 S.2.1 dX0_code_26 (by decide) ?_
  refine lv_aload_n S.1 S.2.1 dX0_code_29 rfl (lv_at hl 0 rfl) ?_
  refine gX_th S hK hP dX0_code_30 ?_
  refine lv_iconst (v := (nI 0)) S.1 S.2.1 dX0_code_33 (by decide) ?_
  refine lX_th S hK hP (by omega) dX0_code_34 ?_
  refine n_imul S dX0_code_35 ?_
  refine n_iadd S dX0_code_36 ?_
  exact r_int S hr hlk hH (by rw [pv_4]; congr 1; omega) dX0_code_37
theorem kX_code (S : CallFix p m c cc nL s args lw_all RX0) (hK : va_K D vwCl (tX cS cB) s) (hP : va_P D vwCl (xw a cS cB on bk rl fi se n th le) H)   (hsz : ls.size = nL) (hdg : decode cc pc = .ok (.invokevirtual 85, 3)) (kk : W p l e R s m args below meth c H locs cells slots Q (F0 m (pc + 3) ls (.int (nI (pv th 4)) :: rest))) (hR : (rmK 0).frames + 1 ≤ R.frames ∧ 8 + (1 + 11) + (rmK 0).locals ≤ R.locals := by decide) (hW : (rest.map fun v => v.category).sum ≤ 8 := by exact Nat.le_of_ble_eq_true rfl) (hf : cells ≤ R.cells ∧ slots ≤ R.slots := by first | exact ⟨Nat.zero_le _, Nat.zero_le _⟩ | decide) : W p l e R s m args below meth c H locs cells slots Q (F0 m pc ls (.ref (a 0) :: rest)) :=
  ro_V S hK hK hP (ci := 0) rfl rfl (mX_code l hP ) (cwV 0 S.2.2.2.2 (lw_V q126 q128 qs8 q16 q129) rfl rfl rfl (by decide +kernel) hR) rfl hsz rfl hW hdg hf kk
end Methods
end
section
set_option maxRecDepth 100000
theorem bI_or (x y : Bool) : bI x ||| bI y = bI (x || y) := by cases x <;> cases y <;> rfl
def LJ (ok : Nat → Bool) (al : Nat → Nat → Bool) (us : Nat → Bool) (n x k y : Nat) (A M : Bool) : Prop := x ≤ y ∧ y ≤ 8 ∧ (∀ z, x ≤ z → z < y → ok z = false) ∧ (M = true → x + k ≤ y) ∧ (M = false → y < 8 ∧ ∀ i, i < n → us i = true → al i y = true) ∧ (A = true → anyB us n = true) ∧ (A = false → y = x ∧ (M = false → anyB us n = false)) ∧ k ≤ 9
def LK (ok : Nat → Bool) (al : Nat → Nat → Bool) (us : Nat → Bool) (n x y0 i y : Nat) (A M : Bool) : Prop := i ≤ n ∧ y0 ≤ y ∧ x ≤ y0 ∧ y ≤ 8 ∧ (∀ z, x ≤ z → z < y → ok z = false) ∧ (M = true → y0 < y) ∧ (M = false → y = y0 ∧ ∀ j, j < i → us j = true → al j y0 = true) ∧ (A = true → anyB us n = true) ∧ (A = false → y = x ∧ ∀ j, j < i → us j = false)
section Leap
variable {ok : Nat → Bool} {al : Nat → Nat → Bool} {us : Nat → Bool} {n x k y y0 i : Nat} {A A0 M : Bool}
theorem lj_0 (hx : x ≤ 8) : LJ ok al us n x 0 x false true :=
  ⟨Nat.le_refl _, hx, fun z h1 h2 => absurd h2 (Nat.not_lt.mpr h1), fun _ => Nat.le_refl _, fun h => (by cases h), fun h => (by cases h), fun _ => ⟨rfl, fun h => (by cases h)⟩, by decide⟩
theorem lk_0 (h : LJ ok al us n x k y A true) : LK ok al us n x y 0 y A false := by
  obtain ⟨h1, h2, h3, h4, h5, h6, h7, h8⟩ := h
  exact ⟨Nat.zero_le _, Nat.le_refl _, h1, h2, h3, fun h => (by cases h), fun _ => ⟨rfl, fun j hj => absurd hj (Nat.not_lt_zero j)⟩, h6, fun h => ⟨(h7 h).1, fun j hj => absurd hj (Nat.not_lt_zero j)⟩⟩
theorem lk_skip (h : LK ok al us n x y0 i y A M) (hi : i < n) (hu : us i = false) : LK ok al us n x y0 (i + 1) y A M := by
  obtain ⟨h1, h2, h3, h4, h5, h6, h7, h8, h9⟩ := h
  refine ⟨hi, h2, h3, h4, h5, h6, fun q => ⟨(h7 q).1, fun j hj hj2 => ?_⟩, h8, fun q => ⟨(h9 q).1, fun j hj => ?_⟩⟩
  · rcases Nat.lt_or_ge j i with q2 | q2
    · exact (h7 q).2 j q2 hj2
    · have : j = i := by omega
      rw [this, hu] at hj2; cases hj2
  · rcases Nat.lt_or_ge j i with q2 | q2
    · exact (h9 q).2 j q2
    · have : j = i := by omega
      rw [this]; exact hu
theorem lk_take (hok : ∀ z, ok z = (allB (fun i => !us i || al i z) n && (anyB us n || z == 0))) (h : LK ok al us n x y0 i y A M) (hi : i < n) (hy : y < 8) (hu : us i = true) {z : Nat} (hz : z = lst (al i) (8 - y) y) {M' : Bool} (hM : M' = (M || decide (y < z))) : LK ok al us n x y0 (i + 1) z true M' := by
  obtain ⟨h1, h2, h3, h4, h5, h6, h7, h8, h9⟩ := h
  obtain ⟨g1, g2, g3, g4⟩ := lst_spec (al i) (8 - y) y
  rw [← hz] at g1 g2 g3 g4
  refine ⟨hi, by omega, h3, by omega, fun w w1 w2 => ?_, fun q => ?_, fun q => ?_, fun _ => (anyB_iff _ _).mpr ⟨i, hi, hu⟩, fun q => (by cases q)⟩
  · rcases Nat.lt_or_ge w y with q | q
    · exact h5 w w1 q
    · have a := g4 w q w2
      rw [hok]
      have : allB (fun i => !us i || al i w) n = false := by
        cases hc : allB (fun i => !us i || al i w) n with
        | false => rfl
        | true =>
          have b := (allB_iff _ _).mp hc i hi
          simp [hu, a] at b
      rw [this]; rfl
  · rw [hM, Bool.or_eq_true, decide_eq_true_iff] at q
    rcases q with q | q
    · have := h6 q; omega
    · omega
  · rw [hM, Bool.or_eq_false_iff, decide_eq_false_iff_not] at q
    obtain ⟨q1, q2⟩ := q
    have e : z = y := by omega
    obtain ⟨e1, e2⟩ := h7 q1
    refine ⟨by omega, fun j hj hj2 => ?_⟩
    rcases Nat.lt_or_ge j i with q3 | q3
    · exact e2 j q3 hj2
    · have : j = i := by omega
      rw [this, ← e1, ← e]; exact g3 (by omega)
theorem lk_end (hJ : LJ ok al us n x k y0 A0 true) (hy : y0 < 8) (hk : k ≤ 8) (h : LK ok al us n x y0 i y A M) (he : n ≤ i ∨ 8 ≤ y) : LJ ok al us n x (k + 1) y A M := by
  obtain ⟨-, -, -, j4, -⟩ := hJ
  obtain ⟨h1, h2, h3, h4, h5, h6, h7, h8, h9⟩ := h
  have j4 := j4 rfl
  refine ⟨by omega, h4, h5, fun q => ?_, fun q => ?_, h8, fun q => ⟨(h9 q).1, fun q2 => ?_⟩, by omega⟩
  · have := h6 q; omega
  · obtain ⟨e1, e2⟩ := h7 q
    have hi : n = i := by omega
    refine ⟨by omega, fun j hj hj2 => ?_⟩
    rw [e1]; exact e2 j (by omega) hj2
  · obtain ⟨e1, e2⟩ := h7 q2
    have hi : n = i := by omega
    cases hc : anyB us n with
    | false => rfl
    | true =>
      obtain ⟨j, hj, hj2⟩ := (anyB_iff _ _).mp hc
      rw [(h9 q).2 j (by omega)] at hj2; cases hj2
theorem lj_end (hok : ∀ z, ok z = (allB (fun i => !us i || al i z) n && (anyB us n || z == 0))) (hx : x ≤ 8) (h : LJ ok al us n x k y A M) (he : 8 < k ∨ M = false ∨ 8 ≤ y) : ((A = true ∨ x = 0) → y = lst ok (8 - x) x) ∧ (A = false → 0 < x → 8 = lst ok (8 - x) x) := by
  obtain ⟨h1, h2, h3, h4, h5, h6, h7, h8⟩ := h
  have he : M = false ∨ y = 8 := by
    cases hM : M with
    | false => exact Or.inl rfl
    | true =>
      right
      have := h4 hM
      rcases he with q | q | q
      · omega
      · rw [hM] at q; cases q
      · omega
  have hall : y < 8 → allB (fun i => !us i || al i y) n = true := by
    intro q
    have hM : M = false := by rcases he with q2 | q2
                              · exact q2
                              · omega
    rw [allB_iff]
    intro i hi
    cases hu : us i with
    | false => rfl
    | true => rw [(h5 hM).2 i hi hu]; rfl
  constructor
  · intro hA
    refine (lst_eq h1 (by omega) (fun q => ?_) h3).symm
    have q8 : y < 8 := by omega
    rw [hok, hall q8, Bool.true_and]
    cases hA' : A with
    | true => rw [h6 hA']; rfl
    | false =>
      have hx0 : x = 0 := by rcases hA with q2 | q2
                             · rw [hA'] at q2; cases q2
                             · exact q2
      have := (h7 hA').1
      rw [this, hx0]; simp
  · intro hA hx0
    refine (lst_eq hx (by omega) (fun q => by omega) (fun z z1 z2 => ?_)).symm
    obtain ⟨e1, e2⟩ := h7 hA
    have hM : M = false := by rcases he with q2 | q2
                              · exact q2
                              · omega
    rw [hok, e2 hM]
    have : (z == 0) = false := by simp; omega
    rw [this]; simp
end Leap
section Loops4
variable {p : Program} {l : Launch} {e : Env} {R : Room} {s : State} {m : MethodId} {args : Array Value} {below : List Frame} {meth : Method} {c : Code} {H : Heap} {locs : List Loc} {cells slots : Nat} {Q : State → Prop} {cc : ByteArray} {pc nL : Nat} {ls : Array Slot} {rest : List Value} {own : String}
theorem loopW4 {α β γ δ : Type} (I : α → β → γ → δ → Heap → List Loc → Array Slot → Prop) (μ : α → β → γ → δ → Nat)
    (step : ∀ (x : α) (y : β) (z : γ) (u : δ) (H : Heap) (locs : List Loc) (ls : Array Slot), I x y z u H locs ls → (∀ (x' : α) (y' : β) (z' : γ) (u' : δ) (H' : Heap) (locs' : List Loc) (ls' : Array Slot), I x' y' z' u' H' locs' ls' → μ x' y' z' u' < μ x y z u → W p l e R s m args below meth c H' locs' cells slots Q (F0 m pc ls' [])) → W p l e R s m args below meth c H locs cells slots Q (F0 m pc ls [])) :
    ∀ (x : α) (y : β) (z : γ) (u : δ) (H : Heap) (locs : List Loc) (ls : Array Slot), I x y z u H locs ls → W p l e R s m args below meth c H locs cells slots Q (F0 m pc ls []) :=
  fun x y z u H locs ls h => loopW3 (α := α) (β := β) (γ := γ × δ) (fun a b q => I a b q.1 q.2) (fun a b q => μ a b q.1 q.2) (fun a b q H locs ls h ih => step a b q.1 q.2 H locs ls h (fun x' y' z' u' H' locs' ls' => ih x' y' (z', u') H' locs' ls')) x y (z, u) H locs ls h
/-- nextFrom's low: n < 0 ? 0 : n -/
theorem nf_low (S : CallFix p m c cX0_nextFrom 7 s args lw_all own) {q : Int32} {lv : List (Nat × Value)} (hl : lv_has ls 7 lv) (h1 : lv[1]? = some (1, .int q))
    (kk : W p l e R s m args below meth c H locs cells slots Q (F0 m 18 ls [.int (nI q.toNatClampNeg)])) : W p l e R s m args below meth c H locs cells slots Q (F0 m 9 ls []) := by
  refine lv_iload_n S.1 S.2.1 dX0_nextFrom_9 rfl (lv_at hl 1 h1) ?_
  refine lv_if_ge (tgt := 17) S.1 S.2.1 dX0_nextFrom_10 (by decide) (fun h => ?_) (fun h => ?_)
  · refine lv_iload_n S.1 S.2.1 dX0_nextFrom_17 rfl (lv_at hl 1 h1) ?_
    obtain ⟨j, hj, rfl⟩ := nI_of (x := q) (by
      intro h9
      rw [Int32.lt_iff_toInt_lt] at h9
      rw [Int32.le_iff_toInt_le] at h
      omega)
    rw [nI_clamp hj] at kk
    exact kk
  · refine lv_iconst (v := 0) S.1 S.2.1 dX0_nextFrom_13 (by decide) ?_
    refine lv_goto (tgt := 18) S.1 S.2.1 dX0_nextFrom_14 (by decide) ?_
    have e : q.toNatClampNeg = 0 := by
      rw [Int32.le_iff_toInt_le] at h
      have h0 : (0 : Int32).toInt = 0 := rfl
      rw [h0] at h
      show q.toInt.toNat = 0
      omega
    rw [e] at kk
    exact kk
end Loops4
end
section
set_option maxRecDepth 100000
section Methods
variable {p : Program} {l : Launch} {e : Env} {R : Room} {s : State} {m : MethodId} {args : Array Value} {below : List Frame} {meth : Method} {c : Code} {H H0 : Heap} {locs : List Loc} {cells slots : Nat} {Q : State → Prop} {cc : ByteArray} {pc nL : Nat} {ls : Array Slot} {rest : List Value} {own : String}
variable {D : va_G} {a b : Nat → Nat} {cS cB cI cZ : ClassId} {on bk rl fi se th le : Nat → Nat} {n : Nat} {sn : Nat → Bool}
theorem mX_allowedFrom (l : Launch) (hP : va_P D vwCl (xw a cS cB on bk rl fi se n th le) H) (i : Nat) (d : Nat) (x : Nat) (hI : XI on bk rl fi se n) (hi : i < 5) (hd : d < 4) (hx : x ≤ 8) (ht : ∀ w, w < d → th w < 8) : Met l yX0_allowedFrom (ws_ yX0_allowedFrom cX0_allowedFrom 7 (some .int)) (rmK 2) (va_Pc [.ref (a 0), .int (nI i), .int (nI d), .int (nI x)] (fun U => U.heap = H ∧ va_K D vwCl (tX cS cB) U)) (QcRead ((nI (lst (alw on bk rl fi se th d i) (8 - x) x)))) 0 0 (fun _ => False) := by
  refine anyMet (by decide) (Nat.le_of_ble_eq_true rfl) (fun p e s m below meth c S hr hlk hin hH hK ls hl => ?_)
  have S : CallFix p m c cX0_allowedFrom 7 s _ lw_all RX0 := S
  have hl : lv_has ls 7 [(0, .ref (a 0)), (1, .int (nI i)), (2, .int (nI d)), (3, .int (nI x))] := hl
  have hI0 := hI
  obtain ⟨hon, hbk, hrl, hfi, hse, hn5, hco⟩ := hI
  have b1 := hfi i
  have b2 := hse i
  have b3 := hrl i
  refine lv_aload_n S.1 S.2.1 dX0_allowedFrom_0 rfl (lv_at hl 0 rfl) ?_
  refine gX_rl S hK hP dX0_allowedFrom_1 ?_
  refine lv_iload_n S.1 S.2.1 dX0_allowedFrom_4 rfl (lv_at hl 1 rfl) ?_
  refine lX_rl S hK hP (by omega) dX0_allowedFrom_5 ?_
  refine lv_bipush (v := (nI 8)) S.1 S.2.1 dX0_allowedFrom_6 (by decide) ?_
  refine n_imul S dX0_allowedFrom_8 ?_
  refine lv_istore (lv' := [(4, .int (nI ((rl i) * 8))), (0, .ref (a 0)), (1, .int (nI i)), (2, .int (nI d)), (3, .int (nI x))]) S.1 S.2.1 dX0_allowedFrom_9 hl (by decide) rfl (fun ls hl => ?_)
  refine lv_aload_n S.1 S.2.1 dX0_allowedFrom_11 rfl (lv_at hl 1 rfl) ?_
  refine gX_fi S hK hP dX0_allowedFrom_12 ?_
  refine lv_iload_n S.1 S.2.1 dX0_allowedFrom_15 rfl (lv_at hl 2 rfl) ?_
  refine lX_fi S hK hP (by omega) dX0_allowedFrom_16 ?_
  refine lv_istore (lv' := [(5, .int (nI (fi i))), (4, .int (nI ((rl i) * 8))), (0, .ref (a 0)), (1, .int (nI i)), (2, .int (nI d)), (3, .int (nI x))]) S.1 S.2.1 dX0_allowedFrom_17 hl (by decide) rfl (fun ls hl => ?_)
  refine lv_aload_n S.1 S.2.1 dX0_allowedFrom_19 rfl (lv_at hl 2 rfl) ?_
  refine gX_se S hK hP dX0_allowedFrom_20 ?_
  refine lv_iload_n S.1 S.2.1 dX0_allowedFrom_23 rfl (lv_at hl 3 rfl) ?_
  refine lX_se S hK hP (by omega) dX0_allowedFrom_24 ?_
  refine lv_istore (lv' := [(6, .int (nI (se i))), (5, .int (nI (fi i))), (4, .int (nI ((rl i) * 8))), (0, .ref (a 0)), (1, .int (nI i)), (2, .int (nI d)), (3, .int (nI x))]) S.1 S.2.1 dX0_allowedFrom_25 hl (by decide) rfl (fun ls hl => ?_)
  refine lv_iload S.1 S.2.1 dX0_allowedFrom_27 (lv_at hl 1 rfl) ?_
  refine lv_iload_n S.1 S.2.1 dX0_allowedFrom_29 rfl (lv_at hl 5 rfl) ?_
  refine n_ne (tgt := 47) S dX0_allowedFrom_30 (by decide) (fun h1 => ?_) (fun h1 => ?_)
  · refine lv_iload S.1 S.2.1 dX0_allowedFrom_47 (lv_at hl 1 rfl) ?_
    refine lv_iload_n S.1 S.2.1 dX0_allowedFrom_49 rfl (lv_at hl 5 rfl) ?_
    refine n_ne (tgt := 90) S dX0_allowedFrom_50 (by decide) (fun h2 => ?_) (fun h2 => ?_)
    · refine lv_iload S.1 S.2.1 dX0_allowedFrom_90 (lv_at hl 1 rfl) ?_
      refine lv_iload_n S.1 S.2.1 dX0_allowedFrom_92 rfl (lv_at hl 5 rfl) ?_
      refine n_ge (tgt := 118) S dX0_allowedFrom_93 (by decide) (fun h3 => ?_) (fun h3 => ?_)
      · have h4 : ¬ fi i < d := by omega
        refine lv_aload_n S.1 S.2.1 dX0_allowedFrom_118 rfl (lv_at hl 3 rfl) ?_
        refine lv_iload S.1 S.2.1 dX0_allowedFrom_119 (lv_at hl 2 rfl) ?_
        refine lv_iload_n S.1 S.2.1 dX0_allowedFrom_121 rfl (lv_at hl 6 rfl) ?_
        refine lv_iconst (v := (bI false)) S.1 S.2.1 dX0_allowedFrom_122 (by decide) ?_
        refine kX_nextWithAny S hK hP (u := rl i * 8) (x := x) (f := false) hI0 (by omega) hx hl.1 dX0_allowedFrom_123 ?_
        exact r_int S hr hlk hH (congrArg (fun g => nI (lst g (8 - x) x)) (funext (fun y => by simp [alw, h1, h4]))) dX0_allowedFrom_126
      · have b4 := ht (fi i) h3
        refine lv_aload_n S.1 S.2.1 dX0_allowedFrom_96 rfl (lv_at hl 3 rfl) ?_
        refine gX_on S hK hP dX0_allowedFrom_97 ?_
        refine lv_iload S.1 S.2.1 dX0_allowedFrom_100 (lv_at hl 2 rfl) ?_
        refine lv_aload_n S.1 S.2.1 dX0_allowedFrom_102 rfl (lv_at hl 3 rfl) ?_
        refine gX_th S hK hP dX0_allowedFrom_103 ?_
        refine lv_iload S.1 S.2.1 dX0_allowedFrom_106 (lv_at hl 1 rfl) ?_
        refine lX_th S hK hP (by omega) dX0_allowedFrom_108 ?_
        refine n_iadd S dX0_allowedFrom_109 ?_
        refine lX_on S hK hP (by omega) dX0_allowedFrom_110 ?_
        refine lv_iload_n S.1 S.2.1 dX0_allowedFrom_111 rfl (lv_at hl 6 rfl) ?_
        have b5 := hon (rl i * 8 + th (fi i))
        refine kX_from S (w := on (rl i * 8 + th (fi i))) (x := x) b5 hx hl.1 dX0_allowedFrom_112 ?_
        refine lv_goto (tgt := 126) S.1 S.2.1 dX0_allowedFrom_115 (by decide) ?_
        exact r_int S hr hlk hH (congrArg (fun g => nI (lst g (8 - x) x)) (funext (fun y => by simp [alw, h1, h3]))) dX0_allowedFrom_126
    · exact absurd h2 h1
  · refine lv_iload S.1 S.2.1 dX0_allowedFrom_33 (lv_at hl 0 rfl) ?_
    refine lv_iload_n S.1 S.2.1 dX0_allowedFrom_35 rfl (lv_at hl 5 rfl) ?_
    refine n_ne (tgt := 47) S dX0_allowedFrom_36 (by decide) (fun h2 => ?_) (fun h2 => ?_)
    · refine lv_iload S.1 S.2.1 dX0_allowedFrom_47 (lv_at hl 1 rfl) ?_
      refine lv_iload_n S.1 S.2.1 dX0_allowedFrom_49 rfl (lv_at hl 5 rfl) ?_
      refine n_ne (tgt := 90) S dX0_allowedFrom_50 (by decide) (fun h3 => ?_) (fun h3 => ?_)
      · exact absurd h1 h3
      · refine lv_iload S.1 S.2.1 dX0_allowedFrom_53 (lv_at hl 0 rfl) ?_
        refine lv_iload_n S.1 S.2.1 dX0_allowedFrom_55 rfl (lv_at hl 5 rfl) ?_
        refine n_ge (tgt := 81) S dX0_allowedFrom_56 (by decide) (fun h4 => ?_) (fun h4 => ?_)
        · have h5 : ¬ se i < d := by omega
          refine lv_aload_n S.1 S.2.1 dX0_allowedFrom_81 rfl (lv_at hl 3 rfl) ?_
          refine lv_iload S.1 S.2.1 dX0_allowedFrom_82 (lv_at hl 2 rfl) ?_
          refine lv_iload_n S.1 S.2.1 dX0_allowedFrom_84 rfl (lv_at hl 6 rfl) ?_
          refine lv_iconst (v := (bI true)) S.1 S.2.1 dX0_allowedFrom_85 (by decide) ?_
          refine kX_nextWithAny S hK hP (u := rl i * 8) (x := x) (f := true) hI0 (by omega) hx hl.1 dX0_allowedFrom_86 ?_
          exact r_int S hr hlk hH (congrArg (fun g => nI (lst g (8 - x) x)) (funext (fun y => by simp [alw, h1, h2, h5]))) dX0_allowedFrom_89
        · have b4 := ht (se i) h4
          refine lv_aload_n S.1 S.2.1 dX0_allowedFrom_59 rfl (lv_at hl 3 rfl) ?_
          refine gX_bk S hK hP dX0_allowedFrom_60 ?_
          refine lv_iload S.1 S.2.1 dX0_allowedFrom_63 (lv_at hl 2 rfl) ?_
          refine lv_aload_n S.1 S.2.1 dX0_allowedFrom_65 rfl (lv_at hl 3 rfl) ?_
          refine gX_th S hK hP dX0_allowedFrom_66 ?_
          refine lv_iload S.1 S.2.1 dX0_allowedFrom_69 (lv_at hl 0 rfl) ?_
          refine lX_th S hK hP (by omega) dX0_allowedFrom_71 ?_
          refine n_iadd S dX0_allowedFrom_72 ?_
          refine lX_bk S hK hP (by omega) dX0_allowedFrom_73 ?_
          refine lv_iload_n S.1 S.2.1 dX0_allowedFrom_74 rfl (lv_at hl 6 rfl) ?_
          have b5 := hbk (rl i * 8 + th (se i))
          refine kX_from S (w := bk (rl i * 8 + th (se i))) (x := x) b5 hx hl.1 dX0_allowedFrom_75 ?_
          refine lv_goto (tgt := 89) S.1 S.2.1 dX0_allowedFrom_78 (by decide) ?_
          exact r_int S hr hlk hH (congrArg (fun g => nI (lst g (8 - x) x)) (funext (fun y => by simp [alw, h1, h2, h4]))) dX0_allowedFrom_89
    · refine lv_aload_n S.1 S.2.1 dX0_allowedFrom_39 rfl (lv_at hl 3 rfl) ?_
      refine lv_iload S.1 S.2.1 dX0_allowedFrom_40 (lv_at hl 2 rfl) ?_
      refine lv_iload_n S.1 S.2.1 dX0_allowedFrom_42 rfl (lv_at hl 6 rfl) ?_
      refine kX_nextOnDiagonal S hK hP (u := rl i * 8) (x := x) hI0 (by omega) hx hl.1 dX0_allowedFrom_43 ?_
      exact r_int S hr hlk hH (congrArg (fun g => nI (lst g (8 - x) x)) (funext (fun y => by simp [alw, h1, h2]))) dX0_allowedFrom_46
theorem kX_allowedFrom (S : CallFix p m c cc nL s args lw_all RX0) (hK : va_K D vwCl (tX cS cB) s) (hP : va_P D vwCl (xw a cS cB on bk rl fi se n th le) H) {i : Nat} {d : Nat} {x : Nat} (hI : XI on bk rl fi se n) (hi : i < 5) (hd : d < 4) (hx : x ≤ 8) (ht : ∀ w, w < d → th w < 8) (hsz : ls.size = nL) (hdg : decode cc pc = .ok (.invokevirtual 72, 3)) (kk : W p l e R s m args below meth c H locs cells slots Q (F0 m (pc + 3) ls (.int (nI (lst (alw on bk rl fi se th d i) (8 - x) x)) :: rest))) (hR : (rmK 2).frames + 1 ≤ R.frames ∧ 8 + (7 + 11) + (rmK 2).locals ≤ R.locals := by decide) (hW : (rest.map fun v => v.category).sum ≤ 8 := by exact Nat.le_of_ble_eq_true rfl) (hf : cells ≤ R.cells ∧ slots ≤ R.slots := by first | exact ⟨Nat.zero_le _, Nat.zero_le _⟩ | decide) : W p l e R s m args below meth c H locs cells slots Q (F0 m pc ls (.int (nI x) :: .int (nI d) :: .int (nI i) :: .ref (a 0) :: rest)) :=
  ro_V S hK hK hP (ci := 0) rfl rfl (mX_allowedFrom l hP i d x hI hi hd hx ht) (cwV 3 S.2.2.2.2 (lw_V q104 q106 qs4 q16 q107) rfl rfl rfl (by decide +kernel) hR) rfl hsz rfl hW hdg hf kk
theorem mX_leap (l : Launch) (hP : va_P D vwCl (xw a cS cB on bk rl fi se n th le) H) (d : Nat) (x : Nat) (hI : XI on bk rl fi se n) (hd : d < 4) (hx : x ≤ 8) (ht : ∀ w, w < d → th w < 8) : Met l yX0_leap (ws_ yX0_leap cX0_leap 9 (some .int)) (rmK 3) (va_Pc [.ref (a 0), .int (nI d), .int (nI x)] (fun U => U.heap = H ∧ va_K D vwCl (tX cS cB) U)) (QcRead ((nI (lst (okB on bk rl fi se th n d) (8 - x) x)))) 0 0 (fun _ => False) := by
  refine anyMet (by decide) (Nat.le_of_ble_eq_true rfl) (fun p e s m below meth c S hr hlk hin hH hK ls hl => ?_)
  have S : CallFix p m c cX0_leap 9 s _ lw_all RX0 := S
  have hl : lv_has ls 9 [(0, .ref (a 0)), (1, .int (nI d)), (2, .int (nI x))] := hl
  have hI0 := hI
  obtain ⟨hon, hbk, hrl, hfi, hse, hn5, hco⟩ := hI
  refine lv_iconst (v := (bI false)) S.1 S.2.1 dX0_leap_0 (by decide) ?_
  refine lv_istore_n (lv' := [(3, .int (bI false)), (0, .ref (a 0)), (1, .int (nI d)), (2, .int (nI x))]) S.1 S.2.1 dX0_leap_1 rfl hl (by decide) rfl (fun ls hl => ?_)
  refine lv_iload_n S.1 S.2.1 dX0_leap_2 rfl (lv_at hl 3 rfl) ?_
  refine lv_istore (lv' := [(4, .int (nI x)), (3, .int (bI false)), (0, .ref (a 0)), (1, .int (nI d)), (2, .int (nI x))]) S.1 S.2.1 dX0_leap_3 hl (by decide) rfl (fun ls hl => ?_)
  refine lv_iconst (v := (bI true)) S.1 S.2.1 dX0_leap_5 (by decide) ?_
  refine lv_istore (lv' := [(5, .int (bI true)), (4, .int (nI x)), (3, .int (bI false)), (0, .ref (a 0)), (1, .int (nI d)), (2, .int (nI x))]) S.1 S.2.1 dX0_leap_6 hl (by decide) rfl (fun ls hl => ?_)
  refine lv_iconst (v := (nI 0)) S.1 S.2.1 dX0_leap_8 (by decide) ?_
  refine lv_istore (lv' := [(6, .int (nI 0)), (5, .int (bI true)), (4, .int (nI x)), (3, .int (bI false)), (0, .ref (a 0)), (1, .int (nI d)), (2, .int (nI x))]) S.1 S.2.1 dX0_leap_9 hl (by decide) rfl (fun ls hl => ?_)
  refine loopR4 (α := Nat) (β := Nat) (γ := Bool) (δ := Bool) (fun k y A M ls => lv_has ls 9 [(6, .int (nI k)), (5, .int (bI M)), (4, .int (nI y)), (3, .int (bI A)), (0, .ref (a 0)), (1, .int (nI d)), (2, .int (nI x))] ∧ LJ (okB on bk rl fi se th n d) (alw on bk rl fi se th d) (usB fi se d) n x k y A M) (fun k y A M => 9 - k) (fun k y A M ls hJ ih => ?_) 0 x false true ls ⟨lv_sub hl [0, 1, 2, 3, 4, 5, 6] rfl, lj_0 hx⟩
  obtain ⟨hl, hJ⟩ := hJ
  have c1 := hJ.1
  have c2 := hJ.2.1
  have c3 := hJ.2.2.2.2.2.2.2
  refine lv_iload S.1 S.2.1 dX0_leap_11 (lv_at hl 0 rfl) ?_
  refine lv_bipush (v := (nI 8)) S.1 S.2.1 dX0_leap_13 (by decide) ?_
  refine n_gt (tgt := 108) S dX0_leap_15 (by decide) (fun h1 => ?_) (fun h1 => ?_)
  · have hend := lj_end (ok := okB on bk rl fi se th n d) (fun _ => rfl) hx hJ (Or.inl h1)
    refine lv_iload_n S.1 S.2.1 dX0_leap_108 rfl (lv_at hl 3 rfl) ?_
    refine z_ne (tgt := 116) S dX0_leap_109 (by decide) (fun g1 => ?_) (fun g1 => ?_)
    · refine lv_iload S.1 S.2.1 dX0_leap_116 (lv_at hl 2 rfl) ?_
      refine lv_goto (tgt := 123) S.1 S.2.1 dX0_leap_118 (by decide) ?_
      exact r_int S hr hlk hH (congrArg nI (hend.1 (Or.inl g1))) dX0_leap_123
    · refine lv_iload_n S.1 S.2.1 dX0_leap_112 rfl (lv_at hl 6 rfl) ?_
      refine n_ifne (tgt := 121) S dX0_leap_113 (by decide) (fun g2 => ?_) (fun g2 => ?_)
      · refine lv_bipush (v := (nI 8)) S.1 S.2.1 dX0_leap_121 (by decide) ?_
        exact r_int S hr hlk hH (congrArg nI (hend.2 g1 g2)) dX0_leap_123
      · refine lv_iload S.1 S.2.1 dX0_leap_116 (lv_at hl 2 rfl) ?_
        refine lv_goto (tgt := 123) S.1 S.2.1 dX0_leap_118 (by decide) ?_
        exact r_int S hr hlk hH (congrArg nI (hend.1 (Or.inr g2))) dX0_leap_123
  · refine lv_iload S.1 S.2.1 dX0_leap_18 (lv_at hl 1 rfl) ?_
    refine z_eq (tgt := 108) S dX0_leap_20 (by decide) (fun h2 => ?_) (fun h2 => ?_)
    · have hend := lj_end (ok := okB on bk rl fi se th n d) (fun _ => rfl) hx hJ (Or.inr (Or.inl h2))
      refine lv_iload_n S.1 S.2.1 dX0_leap_108 rfl (lv_at hl 3 rfl) ?_
      refine z_ne (tgt := 116) S dX0_leap_109 (by decide) (fun g1 => ?_) (fun g1 => ?_)
      · refine lv_iload S.1 S.2.1 dX0_leap_116 (lv_at hl 2 rfl) ?_
        refine lv_goto (tgt := 123) S.1 S.2.1 dX0_leap_118 (by decide) ?_
        exact r_int S hr hlk hH (congrArg nI (hend.1 (Or.inl g1))) dX0_leap_123
      · refine lv_iload_n S.1 S.2.1 dX0_leap_112 rfl (lv_at hl 6 rfl) ?_
        refine n_ifne (tgt := 121) S dX0_leap_113 (by decide) (fun g2 => ?_) (fun g2 => ?_)
        · refine lv_bipush (v := (nI 8)) S.1 S.2.1 dX0_leap_121 (by decide) ?_
          exact r_int S hr hlk hH (congrArg nI (hend.2 g1 g2)) dX0_leap_123
        · refine lv_iload S.1 S.2.1 dX0_leap_116 (lv_at hl 2 rfl) ?_
          refine lv_goto (tgt := 123) S.1 S.2.1 dX0_leap_118 (by decide) ?_
          exact r_int S hr hlk hH (congrArg nI (hend.1 (Or.inr g2))) dX0_leap_123
    · subst h2
      refine lv_iload S.1 S.2.1 dX0_leap_23 (lv_at hl 2 rfl) ?_
      refine lv_bipush (v := (nI 8)) S.1 S.2.1 dX0_leap_25 (by decide) ?_
      refine n_ge (tgt := 108) S dX0_leap_27 (by decide) (fun h3 => ?_) (fun h3 => ?_)
      · have hend := lj_end (ok := okB on bk rl fi se th n d) (fun _ => rfl) hx hJ (Or.inr (Or.inr h3))
        refine lv_iload_n S.1 S.2.1 dX0_leap_108 rfl (lv_at hl 3 rfl) ?_
        refine z_ne (tgt := 116) S dX0_leap_109 (by decide) (fun g1 => ?_) (fun g1 => ?_)
        · refine lv_iload S.1 S.2.1 dX0_leap_116 (lv_at hl 2 rfl) ?_
          refine lv_goto (tgt := 123) S.1 S.2.1 dX0_leap_118 (by decide) ?_
          exact r_int S hr hlk hH (congrArg nI (hend.1 (Or.inl g1))) dX0_leap_123
        · refine lv_iload_n S.1 S.2.1 dX0_leap_112 rfl (lv_at hl 6 rfl) ?_
          refine n_ifne (tgt := 121) S dX0_leap_113 (by decide) (fun g2 => ?_) (fun g2 => ?_)
          · refine lv_bipush (v := (nI 8)) S.1 S.2.1 dX0_leap_121 (by decide) ?_
            exact r_int S hr hlk hH (congrArg nI (hend.2 g1 g2)) dX0_leap_123
          · refine lv_iload S.1 S.2.1 dX0_leap_116 (lv_at hl 2 rfl) ?_
            refine lv_goto (tgt := 123) S.1 S.2.1 dX0_leap_118 (by decide) ?_
            exact r_int S hr hlk hH (congrArg nI (hend.1 (Or.inr g2))) dX0_leap_123
      · refine lv_iconst (v := (bI false)) S.1 S.2.1 dX0_leap_30 (by decide) ?_
        refine lv_istore (lv' := [(5, .int (bI false)), (6, .int (nI k)), (4, .int (nI y)), (3, .int (bI A)), (0, .ref (a 0)), (1, .int (nI d)), (2, .int (nI x))]) S.1 S.2.1 dX0_leap_31 hl (by decide) rfl (fun ls hl => ?_)
        refine lv_iconst (v := (nI 0)) S.1 S.2.1 dX0_leap_33 (by decide) ?_
        refine lv_istore (lv' := [(7, .int (nI 0)), (5, .int (bI false)), (6, .int (nI k)), (4, .int (nI y)), (3, .int (bI A)), (0, .ref (a 0)), (1, .int (nI d)), (2, .int (nI x))]) S.1 S.2.1 dX0_leap_34 hl (by decide) rfl (fun ls hl => ?_)
        refine loopR4 (α := Nat) (β := Nat) (γ := Bool) (δ := Bool) (fun i z B M ls => lv_has ls 9 [(7, .int (nI i)), (5, .int (bI M)), (6, .int (nI k)), (4, .int (nI z)), (3, .int (bI B)), (0, .ref (a 0)), (1, .int (nI d)), (2, .int (nI x))] ∧ LK (okB on bk rl fi se th n d) (alw on bk rl fi se th d) (usB fi se d) n x y i z B M) (fun i z B M => n - i) (fun i z B M ls hZ ih2 => ?_) 0 y A false ls ⟨lv_sub hl [0, 1, 2, 3, 4, 5, 6, 7] rfl, lk_0 hJ⟩
        obtain ⟨hl, hZ⟩ := hZ
        have e1 := hZ.1
        have e2 := hZ.2.1
        have e4 := hZ.2.2.2.1
        refine lv_iload S.1 S.2.1 dX0_leap_36 (lv_at hl 0 rfl) ?_
        refine lv_aload_n S.1 S.2.1 dX0_leap_38 rfl (lv_at hl 5 rfl) ?_
        refine gX_n S hK hP dX0_leap_39 ?_
        refine n_ge (tgt := 102) S dX0_leap_42 (by decide) (fun h4 => ?_) (fun h4 => ?_)
        · refine n_iinc (x := k) (k := 2) (lv' := [(6, .int (nI (k + 1))), (7, .int (nI i)), (5, .int (bI M)), (4, .int (nI z)), (3, .int (bI B)), (0, .ref (a 0)), (1, .int (nI d)), (2, .int (nI x))]) S dX0_leap_102 hl rfl (by decide) rfl (fun ls hl => ?_)
          refine lv_goto (tgt := 11) S.1 S.2.1 dX0_leap_105 (by decide) ?_
          exact ih (k + 1) z B M ls ⟨lv_sub hl [0, 2, 3, 4, 5, 6, 7] rfl, lk_end hJ h3 h1 hZ (Or.inl h4)⟩ (by omega)
        · refine lv_iload S.1 S.2.1 dX0_leap_45 (lv_at hl 3 rfl) ?_
          refine lv_bipush (v := (nI 8)) S.1 S.2.1 dX0_leap_47 (by decide) ?_
          refine n_ge (tgt := 102) S dX0_leap_49 (by decide) (fun h5 => ?_) (fun h5 => ?_)
          · refine n_iinc (x := k) (k := 2) (lv' := [(6, .int (nI (k + 1))), (7, .int (nI i)), (5, .int (bI M)), (4, .int (nI z)), (3, .int (bI B)), (0, .ref (a 0)), (1, .int (nI d)), (2, .int (nI x))]) S dX0_leap_102 hl rfl (by decide) rfl (fun ls hl => ?_)
            refine lv_goto (tgt := 11) S.1 S.2.1 dX0_leap_105 (by decide) ?_
            exact ih (k + 1) z B M ls ⟨lv_sub hl [0, 2, 3, 4, 5, 6, 7] rfl, lk_end hJ h3 h1 hZ (Or.inr h5)⟩ (by omega)
          · refine lv_aload_n S.1 S.2.1 dX0_leap_52 rfl (lv_at hl 5 rfl) ?_
            refine lv_iload S.1 S.2.1 dX0_leap_53 (lv_at hl 0 rfl) ?_
            refine lv_iload_n S.1 S.2.1 dX0_leap_55 rfl (lv_at hl 6 rfl) ?_
            refine kX_has S hK hP (i := i) (d := d) hI0 (by omega) hd hl.1 dX0_leap_56 ?_
            refine z_eq (tgt := 96) S dX0_leap_59 (by decide) (fun h6 => ?_) (fun h6 => ?_)
            · refine n_iinc (x := i) (k := 0) (lv' := [(7, .int (nI (i + 1))), (5, .int (bI M)), (6, .int (nI k)), (4, .int (nI z)), (3, .int (bI B)), (0, .ref (a 0)), (1, .int (nI d)), (2, .int (nI x))]) S dX0_leap_96 hl rfl (by decide) rfl (fun ls hl => ?_)
              refine lv_goto (tgt := 36) S.1 S.2.1 dX0_leap_99 (by decide) ?_
              exact ih2 (i + 1) z B M ls ⟨lv_sub hl [0, 1, 2, 3, 4, 5, 6, 7] rfl, lk_skip hZ h4 h6⟩ (by omega)
            · refine lv_iconst (v := (bI true)) S.1 S.2.1 dX0_leap_62 (by decide) ?_
              refine lv_istore_n (lv' := [(3, .int (bI true)), (7, .int (nI i)), (5, .int (bI M)), (6, .int (nI k)), (4, .int (nI z)), (0, .ref (a 0)), (1, .int (nI d)), (2, .int (nI x))]) S.1 S.2.1 dX0_leap_63 rfl hl (by decide) rfl (fun ls hl => ?_)
              refine lv_aload_n S.1 S.2.1 dX0_leap_64 rfl (lv_at hl 5 rfl) ?_
              refine lv_iload S.1 S.2.1 dX0_leap_65 (lv_at hl 1 rfl) ?_
              refine lv_iload_n S.1 S.2.1 dX0_leap_67 rfl (lv_at hl 6 rfl) ?_
              refine lv_iload S.1 S.2.1 dX0_leap_68 (lv_at hl 4 rfl) ?_
              refine kX_allowedFrom S hK hP (i := i) (d := d) (x := z) hI0 (by omega) hd (by omega) ht hl.1 dX0_leap_70 ?_
              obtain ⟨u, hu⟩ : ∃ u, u = lst (alw on bk rl fi se th d i) (8 - z) z := ⟨_, rfl⟩
              rw [← hu]
              have u1 := lst_spec (alw on bk rl fi se th d i) (8 - z) z
              rw [← hu] at u1
              have u2 := u1.1
              have u3 := u1.2.1
              refine lv_istore (lv' := [(8, .int (nI u)), (3, .int (bI true)), (7, .int (nI i)), (5, .int (bI M)), (6, .int (nI k)), (4, .int (nI z)), (0, .ref (a 0)), (1, .int (nI d)), (2, .int (nI x))]) S.1 S.2.1 dX0_leap_73 hl (by decide) rfl (fun ls hl => ?_)
              refine lv_iload S.1 S.2.1 dX0_leap_75 (lv_at hl 3 rfl) ?_
              refine lv_iload S.1 S.2.1 dX0_leap_77 (lv_at hl 0 rfl) ?_
              refine lv_iload S.1 S.2.1 dX0_leap_79 (lv_at hl 5 rfl) ?_
              refine n_le (tgt := 88) S dX0_leap_81 (by decide) (fun h7 => ?_) (fun h7 => ?_)
              · refine lv_iconst (v := (bI false)) S.1 S.2.1 dX0_leap_88 (by decide) ?_
                refine lv_ior S.1 S.2.1 dX0_leap_89 ?_
                refine n_top (y := (bI (M || false))) (bI_or M false) ?_
                refine lv_istore (lv' := [(5, .int (bI (M || false))), (8, .int (nI u)), (3, .int (bI true)), (7, .int (nI i)), (6, .int (nI k)), (4, .int (nI z)), (0, .ref (a 0)), (1, .int (nI d)), (2, .int (nI x))]) S.1 S.2.1 dX0_leap_90 hl (by decide) rfl (fun ls hl => ?_)
                refine lv_iload S.1 S.2.1 dX0_leap_92 (lv_at hl 1 rfl) ?_
                refine lv_istore (lv' := [(4, .int (nI u)), (5, .int (bI (M || false))), (8, .int (nI u)), (3, .int (bI true)), (7, .int (nI i)), (6, .int (nI k)), (0, .ref (a 0)), (1, .int (nI d)), (2, .int (nI x))]) S.1 S.2.1 dX0_leap_94 hl (by decide) rfl (fun ls hl => ?_)
                refine n_iinc (x := i) (k := 4) (lv' := [(7, .int (nI (i + 1))), (4, .int (nI u)), (5, .int (bI (M || false))), (8, .int (nI u)), (3, .int (bI true)), (6, .int (nI k)), (0, .ref (a 0)), (1, .int (nI d)), (2, .int (nI x))]) S dX0_leap_96 hl rfl (by decide) rfl (fun ls hl => ?_)
                refine lv_goto (tgt := 36) S.1 S.2.1 dX0_leap_99 (by decide) ?_
                exact ih2 (i + 1) u true (M || false) ls ⟨lv_sub hl [0, 2, 5, 1, 4, 6, 7, 8] rfl, lk_take (ok := okB on bk rl fi se th n d) (fun _ => rfl) hZ h4 h5 h6 hu (by simp; omega)⟩ (by omega)
              · refine lv_iconst (v := (bI true)) S.1 S.2.1 dX0_leap_84 (by decide) ?_
                refine lv_goto (tgt := 89) S.1 S.2.1 dX0_leap_85 (by decide) ?_
                refine lv_ior S.1 S.2.1 dX0_leap_89 ?_
                refine n_top (y := (bI (M || true))) (bI_or M true) ?_
                refine lv_istore (lv' := [(5, .int (bI (M || true))), (8, .int (nI u)), (3, .int (bI true)), (7, .int (nI i)), (6, .int (nI k)), (4, .int (nI z)), (0, .ref (a 0)), (1, .int (nI d)), (2, .int (nI x))]) S.1 S.2.1 dX0_leap_90 hl (by decide) rfl (fun ls hl => ?_)
                refine lv_iload S.1 S.2.1 dX0_leap_92 (lv_at hl 1 rfl) ?_
                refine lv_istore (lv' := [(4, .int (nI u)), (5, .int (bI (M || true))), (8, .int (nI u)), (3, .int (bI true)), (7, .int (nI i)), (6, .int (nI k)), (0, .ref (a 0)), (1, .int (nI d)), (2, .int (nI x))]) S.1 S.2.1 dX0_leap_94 hl (by decide) rfl (fun ls hl => ?_)
                refine n_iinc (x := i) (k := 4) (lv' := [(7, .int (nI (i + 1))), (4, .int (nI u)), (5, .int (bI (M || true))), (8, .int (nI u)), (3, .int (bI true)), (6, .int (nI k)), (0, .ref (a 0)), (1, .int (nI d)), (2, .int (nI x))]) S dX0_leap_96 hl rfl (by decide) rfl (fun ls hl => ?_)
                refine lv_goto (tgt := 36) S.1 S.2.1 dX0_leap_99 (by decide) ?_
                exact ih2 (i + 1) u true (M || true) ls ⟨lv_sub hl [0, 2, 5, 1, 4, 6, 7, 8] rfl, lk_take (ok := okB on bk rl fi se th n d) (fun _ => rfl) hZ h4 h5 h6 hu (by simp; omega)⟩ (by omega)
theorem kX_leap (S : CallFix p m c cc nL s args lw_all RX0) (hK : va_K D vwCl (tX cS cB) s) (hP : va_P D vwCl (xw a cS cB on bk rl fi se n th le) H) {d : Nat} {x : Nat} (hI : XI on bk rl fi se n) (hd : d < 4) (hx : x ≤ 8) (ht : ∀ w, w < d → th w < 8) (hsz : ls.size = nL) (hdg : decode cc pc = .ok (.invokevirtual 79, 3)) (kk : W p l e R s m args below meth c H locs cells slots Q (F0 m (pc + 3) ls (.int (nI (lst (okB on bk rl fi se th n d) (8 - x) x)) :: rest))) (hR : (rmK 3).frames + 1 ≤ R.frames ∧ 8 + (9 + 11) + (rmK 3).locals ≤ R.locals := by decide) (hW : (rest.map fun v => v.category).sum ≤ 8 := by exact Nat.le_of_ble_eq_true rfl) (hf : cells ≤ R.cells ∧ slots ≤ R.slots := by first | exact ⟨Nat.zero_le _, Nat.zero_le _⟩ | decide) : W p l e R s m args below meth c H locs cells slots Q (F0 m pc ls (.int (nI x) :: .int (nI d) :: .ref (a 0) :: rest)) :=
  ro_V S hK hK hP (ci := 0) rfl rfl (mX_leap l hP d x hI hd hx ht) (cwV 2 S.2.2.2.2 (lw_V q96 q98 qs2 q16 q99) rfl rfl rfl (by decide +kernel) hR) rfl hsz rfl hW hdg hf kk
set_option maxHeartbeats 1000000 in
theorem mX_nextFrom (l : Launch) (hP : va_P D vwCl (xw a cS cB on bk rl fi se n th le) H) (hA : xAp a 8) (p0 : Int32) (hI : XI on bk rl fi se n) : Met l yX0_nextFrom (ws_ yX0_nextFrom cX0_nextFrom 7 (some .int)) (rmK 4) (va_Pc [.ref (a 0), .int p0] (fun U => U.heap = H ∧ va_K D vwCl (tX cS cB) U)) (XQ D a cS cB (some (.int (enc (lst (ansB on rl fi se n) (4096 - p0.toNatClampNeg) p0.toNatClampNeg)))) on bk rl fi se n) 0 0 (xA a 8) := by
  refine anyMet (by decide) (Nat.le_of_ble_eq_true rfl) (fun p e s m below meth c S hr hlk hin hH hK ls hl => ?_)
  have S : CallFix p m c cX0_nextFrom 7 s _ lw_all RX0 := S
  have hl : lv_has ls 7 [(0, .ref (a 0)), (1, .int p0)] := hl
  have hS : va_S (xA a 8) s.heap H [] := by rw [hH]; exact va_S.rf
  have hI0 := hI
  obtain ⟨hon, hbk, hrl, hfi, hse, hn5, hco⟩ := hI
  refine lv_iload_n S.1 S.2.1 dX0_nextFrom_0 rfl (lv_at hl 1 rfl) ?_
  refine lv_sipush (v := (nI 4096)) S.1 S.2.1 dX0_nextFrom_1 (by decide) ?_
  refine lv_icmp_lt (tgt := 9) S.1 S.2.1 dX0_nextFrom_4 (by decide) (fun h0 => ?_) (fun h0 => ?_)
  · refine nf_low S hl rfl ?_
    have hlow : p0.toNatClampNeg < 4096 := by
      rw [Int32.lt_iff_toInt_lt, nI_toInt (by decide)] at h0
      show p0.toInt.toNat < 4096
      omega
    generalize p0.toNatClampNeg = low at hlow ⊢
    refine lv_istore_n (lv' := [(2, .int (nI low)), (0, .ref (a 0)), (1, .int p0)]) S.1 S.2.1 dX0_nextFrom_18 rfl hl (by decide) rfl (fun ls hl => ?_)
    refine lv_iconst (v := (nI 0)) S.1 S.2.1 dX0_nextFrom_19 (by decide) ?_
    refine lv_istore_n (lv' := [(3, .int (nI 0)), (2, .int (nI low)), (0, .ref (a 0)), (1, .int p0)]) S.1 S.2.1 dX0_nextFrom_20 rfl hl (by decide) rfl (fun ls hl => ?_)
    refine lv_aload_n S.1 S.2.1 dX0_nextFrom_21 rfl (lv_at hl 2 rfl) ?_
    refine gX_le S hK hP dX0_nextFrom_22 ?_
    refine lv_iconst (v := (nI 0)) S.1 S.2.1 dX0_nextFrom_25 (by decide) ?_
    refine lv_iload_n S.1 S.2.1 dX0_nextFrom_26 rfl (lv_at hl 1 rfl) ?_
    refine lv_iconst (v := (nI 0)) S.1 S.2.1 dX0_nextFrom_27 (by decide) ?_
    refine kX_digit S (k := low) (d := 0) (by omega) (by decide) hl.1 dX0_nextFrom_28 ?_
    have b0 := dg_lt low 0
    refine lv_i2b (v := nI (dg low 0)) S.1 S.2.1 dX0_nextFrom_31 (nm_b _ (by omega)) ?_
    refine sX_le S hK hP hA hS (by omega) (by omega) dX0_nextFrom_32 (fun H locs hP hS => ?_)
    refine lv_iconst (v := (nI 0)) S.1 S.2.1 dX0_nextFrom_33 (by decide) ?_
    refine lv_istore (lv' := [(4, .int (nI 0)), (3, .int (nI 0)), (2, .int (nI low)), (0, .ref (a 0)), (1, .int p0)]) S.1 S.2.1 dX0_nextFrom_34 hl (by decide) rfl (fun ls hl => ?_)
    refine loopW4 (α := Nat) (β := Nat → Nat) (γ := Nat → Nat) (δ := Nat) (fun d th le k H locs ls => lv_has ls 7 [(4, .int (nI k)), (3, .int (nI d)), (2, .int (nI low)), (0, .ref (a 0)), (1, .int p0)] ∧ va_P D vwCl (xw a cS cB on bk rl fi se n th le) H ∧ va_S (xA a 8) s.heap H locs ∧ SI on bk rl fi se n low d th (le d) ∧ k + mu d th (le d) ≤ 16384) (fun d th le k => 16384 - k) (fun d th le k H locs ls hJ ih => ?_) 0 th (va_up le 0 (dg low 0)) 0 H locs ls ⟨lv_sub hl [0, 1, 2, 3, 4] rfl, hP, hS, si_0 hlow, by have := mu_0 (th := th) (x := dg low 0); rw [va_up_self]; omega⟩
    obtain ⟨hl, hP, hS, hSI, hmu⟩ := hJ
    have d4 := hSI.1
    have ht := hSI.2.1
    have hx8 := hSI.2.2.1
    have mp := mu_pos (d := d) (th := th) (x := le d)
    refine lv_iload S.1 S.2.1 dX0_nextFrom_36 (lv_at hl 0 rfl) ?_
    refine lv_sipush (v := (nI 16384)) S.1 S.2.1 dX0_nextFrom_38 (by decide) ?_
    refine n_ge (tgt := 148) S dX0_nextFrom_41 (by decide) (fun h1 => ?_) (fun h1 => ?_)
    · exact absurd h1 (by omega)
    · refine lv_aload_n S.1 S.2.1 dX0_nextFrom_44 rfl (lv_at hl 3 rfl) ?_
      refine lv_iload_n S.1 S.2.1 dX0_nextFrom_45 rfl (lv_at hl 1 rfl) ?_
      refine lv_aload_n S.1 S.2.1 dX0_nextFrom_46 rfl (lv_at hl 3 rfl) ?_
      refine gX_le S hK hP dX0_nextFrom_47 ?_
      refine lv_iload_n S.1 S.2.1 dX0_nextFrom_50 rfl (lv_at hl 1 rfl) ?_
      refine lX_le S hK hP (by omega) dX0_nextFrom_51 ?_
      refine kX_leap S hK hP (d := d) (x := le d) hI0 d4 hx8 ht hl.1 dX0_nextFrom_52 ?_
      obtain ⟨y, hy⟩ : ∃ y, y = lst (okB on bk rl fi se th n d) (8 - le d) (le d) := ⟨_, rfl⟩
      rw [← hy]
      have u1 := lst_spec (okB on bk rl fi se th n d) (8 - le d) (le d)
      rw [← hy] at u1
      obtain ⟨u1, u2, u3, u4⟩ := u1
      refine lv_istore (lv' := [(5, .int (nI y)), (4, .int (nI k)), (3, .int (nI d)), (2, .int (nI low)), (0, .ref (a 0)), (1, .int p0)]) S.1 S.2.1 dX0_nextFrom_55 hl (by decide) rfl (fun ls hl => ?_)
      refine lv_iload S.1 S.2.1 dX0_nextFrom_57 (lv_at hl 0 rfl) ?_
      refine lv_bipush (v := (nI 8)) S.1 S.2.1 dX0_nextFrom_59 (by decide) ?_
      refine n_ge (tgt := 118) S dX0_nextFrom_61 (by decide) (fun h2 => ?_) (fun h2 => ?_)
      · have u5 : ∀ z, le d ≤ z → z < 8 → okB on bk rl fi se th n d z = false := fun z z1 z2 => u4 z z1 (by omega)
        rcases Nat.eq_zero_or_pos d with hd0 | hd0
        · subst hd0
          refine lv_iinc (v := -1) (k := 2) (lv' := [(3, .int (-1)), (5, .int (nI y)), (4, .int (nI k)), (2, .int (nI low)), (0, .ref (a 0)), (1, .int p0)]) S.1 S.2.1 dX0_nextFrom_118 hl rfl (by decide) (by decide) rfl (fun ls hl => ?_)
          refine lv_iload_n S.1 S.2.1 dX0_nextFrom_121 rfl (lv_at hl 0 rfl) ?_
          refine lv_if_ge (tgt := 127) S.1 S.2.1 dX0_nextFrom_122 (by decide) (fun h9 => absurd h9 (by decide)) (fun _ => ?_)
          refine lv_iconst (v := (-1)) S.1 S.2.1 dX0_nextFrom_125 (by decide) ?_
          exact xr_int S hr hlk hP hS (by rw [si_none hlow hI0 hSI u5]; rfl) dX0_nextFrom_126
        · obtain ⟨d, rfl⟩ : ∃ j, d = j + 1 := ⟨d - 1, by omega⟩
          refine lv_iinc (v := nI d) (k := 2) (lv' := [(3, .int (nI d)), (5, .int (nI y)), (4, .int (nI k)), (2, .int (nI low)), (0, .ref (a 0)), (1, .int p0)]) S.1 S.2.1 dX0_nextFrom_118 hl rfl (pk_m1 d) (by decide) rfl (fun ls hl => ?_)
          refine lv_iload_n S.1 S.2.1 dX0_nextFrom_121 rfl (lv_at hl 0 rfl) ?_
          refine lv_if_ge (tgt := 127) S.1 S.2.1 dX0_nextFrom_122 (by decide) (fun _ => ?_) (fun h => absurd (nI_pos' (by omega)) h)
          have b1 := ht d (by omega)
          refine lv_aload_n S.1 S.2.1 dX0_nextFrom_127 rfl (lv_at hl 4 rfl) ?_
          refine gX_le S hK hP dX0_nextFrom_128 ?_
          refine lv_iload_n S.1 S.2.1 dX0_nextFrom_131 rfl (lv_at hl 0 rfl) ?_
          refine lv_aload_n S.1 S.2.1 dX0_nextFrom_132 rfl (lv_at hl 4 rfl) ?_
          refine gX_th S hK hP dX0_nextFrom_133 ?_
          refine lv_iload_n S.1 S.2.1 dX0_nextFrom_136 rfl (lv_at hl 0 rfl) ?_
          refine lX_th S hK hP (by omega) dX0_nextFrom_137 ?_
          refine lv_iconst (v := (nI 1)) S.1 S.2.1 dX0_nextFrom_138 (by decide) ?_
          refine n_iadd S dX0_nextFrom_139 ?_
          refine lv_i2b (v := nI ((th d) + 1)) S.1 S.2.1 dX0_nextFrom_140 (nm_b _ (by omega)) ?_
          refine sX_le S hK hP hA hS (by omega) (by omega) dX0_nextFrom_141 (fun H locs hP hS => ?_)
          refine n_iinc (x := k) (k := 2) (lv' := [(4, .int (nI (k + 1))), (3, .int (nI d)), (5, .int (nI y)), (2, .int (nI low)), (0, .ref (a 0)), (1, .int p0)]) S dX0_nextFrom_142 hl rfl (by decide) rfl (fun ls hl => ?_)
          refine lv_goto (tgt := 36) S.1 S.2.1 dX0_nextFrom_145 (by decide) ?_
          refine ih d th (va_up le d (th d + 1)) (k + 1) H locs ls ⟨lv_sub hl [0, 1, 3, 4, 5] rfl, hP, hS, ?_, ?_⟩ (by omega)
          · rw [va_up_self]; exact si_back hI0 hSI u5
          · have := mu_back (x := le (d + 1)) (th := th) d4 b1
            rw [va_up_self]; omega
      · have u6 := u3 (by omega)
        have k1 := (si_fwd hI0 hSI h2 u1 u6 u4).1
        refine lv_aload_n S.1 S.2.1 dX0_nextFrom_64 rfl (lv_at hl 4 rfl) ?_
        refine gX_th S hK hP dX0_nextFrom_65 ?_
        refine lv_iload_n S.1 S.2.1 dX0_nextFrom_68 rfl (lv_at hl 2 rfl) ?_
        refine lv_iload S.1 S.2.1 dX0_nextFrom_69 (lv_at hl 0 rfl) ?_
        refine lv_i2b (v := nI y) S.1 S.2.1 dX0_nextFrom_71 (nm_b _ (by omega)) ?_
        refine sX_th S hK hP hA hS (by omega) (by omega) dX0_nextFrom_72 (fun H locs hP hS => ?_)
        refine lv_aload_n S.1 S.2.1 dX0_nextFrom_73 rfl (lv_at hl 4 rfl) ?_
        refine lv_iload_n S.1 S.2.1 dX0_nextFrom_74 rfl (lv_at hl 3 rfl) ?_
        refine lv_iload_n S.1 S.2.1 dX0_nextFrom_75 rfl (lv_at hl 2 rfl) ?_
        refine kX_tightUpTo S hK hP (low := low) (d := d) hlow d4 k1 hl.1 dX0_nextFrom_76 ?_
        obtain ⟨T, hT⟩ : ∃ T, T = allB (fun w => va_up th d y w == dg low w) (d + 1) := ⟨_, rfl⟩
        rw [← hT]
        refine lv_istore (lv' := [(6, .int (bI T)), (5, .int (nI y)), (4, .int (nI k)), (3, .int (nI d)), (2, .int (nI low)), (0, .ref (a 0)), (1, .int p0)]) S.1 S.2.1 dX0_nextFrom_79 hl (by decide) rfl (fun ls hl => ?_)
        refine n_iinc (x := d) (k := 3) (lv' := [(3, .int (nI (d + 1))), (6, .int (bI T)), (5, .int (nI y)), (4, .int (nI k)), (2, .int (nI low)), (0, .ref (a 0)), (1, .int p0)]) S dX0_nextFrom_81 hl rfl (by decide) rfl (fun ls hl => ?_)
        refine lv_iload_n S.1 S.2.1 dX0_nextFrom_84 rfl (lv_at hl 0 rfl) ?_
        refine lv_iconst (v := (nI 4)) S.1 S.2.1 dX0_nextFrom_85 (by decide) ?_
        refine n_ne (tgt := 94) S dX0_nextFrom_86 (by decide) (fun h3 => ?_) (fun h3 => ?_)
        · have d5 : d + 1 < 4 := by omega
          have hnx := si_next hlow hI0 hSI d5 h2 u1 u6 u4
          rw [← hT] at hnx
          have hm := fun z => mu_fwd (th := th) (x := le d) (y := y) (z := z) d5 h2 u1
          have b2 := dg_lt low (d + 1)
          refine lv_aload_n S.1 S.2.1 dX0_nextFrom_94 rfl (lv_at hl 5 rfl) ?_
          refine gX_le S hK hP dX0_nextFrom_95 ?_
          refine lv_iload_n S.1 S.2.1 dX0_nextFrom_98 rfl (lv_at hl 0 rfl) ?_
          refine lv_iload S.1 S.2.1 dX0_nextFrom_99 (lv_at hl 1 rfl) ?_
          refine z_eq (tgt := 112) S dX0_nextFrom_101 (by decide) (fun h4 => ?_) (fun h4 => ?_)
          · subst h4
            refine lv_iconst (v := (nI 0)) S.1 S.2.1 dX0_nextFrom_112 (by decide) ?_
            refine lv_i2b (v := nI 0) S.1 S.2.1 dX0_nextFrom_113 (nm_b _ (by omega)) ?_
            refine sX_le S hK hP hA hS (by omega) (by omega) dX0_nextFrom_114 (fun H locs hP hS => ?_)
            refine lv_goto (tgt := 142) S.1 S.2.1 dX0_nextFrom_115 (by decide) ?_
            refine n_iinc (x := k) (k := 3) (lv' := [(4, .int (nI (k + 1))), (3, .int (nI (d + 1))), (6, .int (bI false)), (5, .int (nI y)), (2, .int (nI low)), (0, .ref (a 0)), (1, .int p0)]) S dX0_nextFrom_142 hl rfl (by decide) rfl (fun ls hl => ?_)
            refine lv_goto (tgt := 36) S.1 S.2.1 dX0_nextFrom_145 (by decide) ?_
            refine ih (d + 1) (va_up th d y) (va_up le (d + 1) 0) (k + 1) H locs ls ⟨lv_sub hl [0, 1, 4, 5, 6] rfl, hP, hS, ?_, ?_⟩ (by omega)
            · rw [va_up_self]; simpa using hnx
            · have := hm 0
              rw [va_up_self]; omega
          · subst h4
            refine lv_iload_n S.1 S.2.1 dX0_nextFrom_104 rfl (lv_at hl 4 rfl) ?_
            refine lv_iload_n S.1 S.2.1 dX0_nextFrom_105 rfl (lv_at hl 0 rfl) ?_
            refine kX_digit S (k := low) (d := d + 1) (by omega) (by omega) hl.1 dX0_nextFrom_106 ?_
            refine lv_goto (tgt := 113) S.1 S.2.1 dX0_nextFrom_109 (by decide) ?_
            refine lv_i2b (v := nI (dg low (d + 1))) S.1 S.2.1 dX0_nextFrom_113 (nm_b _ (by omega)) ?_
            refine sX_le S hK hP hA hS (by omega) (by omega) dX0_nextFrom_114 (fun H locs hP hS => ?_)
            refine lv_goto (tgt := 142) S.1 S.2.1 dX0_nextFrom_115 (by decide) ?_
            refine n_iinc (x := k) (k := 3) (lv' := [(4, .int (nI (k + 1))), (3, .int (nI (d + 1))), (6, .int (bI true)), (5, .int (nI y)), (2, .int (nI low)), (0, .ref (a 0)), (1, .int p0)]) S dX0_nextFrom_142 hl rfl (by decide) rfl (fun ls hl => ?_)
            refine lv_goto (tgt := 36) S.1 S.2.1 dX0_nextFrom_145 (by decide) ?_
            refine ih (d + 1) (va_up th d y) (va_up le (d + 1) (dg low (d + 1))) (k + 1) H locs ls ⟨lv_sub hl [0, 1, 4, 5, 6] rfl, hP, hS, ?_, ?_⟩ (by omega)
            · rw [va_up_self]; simpa using hnx
            · have := hm (dg low (d + 1))
              rw [va_up_self]; omega
        · have hd3 : d = 3 := by omega
          subst hd3
          refine lv_aload_n S.1 S.2.1 dX0_nextFrom_89 rfl (lv_at hl 5 rfl) ?_
          refine kX_code S hK hP hl.1 dX0_nextFrom_90 ?_
          obtain ⟨v1, v2⟩ := si_found hlow hI0 hSI h2 u1 u6 u4
          exact xr_int S hr hlk hP hS (by rw [v1, enc_lt v2]) dX0_nextFrom_93
  · refine lv_iconst (v := (-1)) S.1 S.2.1 dX0_nextFrom_7 (by decide) ?_
    exact xr_int S hr hlk hP hS (by
      have h9 : 4096 ≤ p0.toNatClampNeg := by
        rw [Int32.lt_iff_toInt_lt, nI_toInt (by decide)] at h0
        show 4096 ≤ p0.toInt.toNat
        omega
      have h8 := (lst_spec (ansB on rl fi se n) (4096 - p0.toNatClampNeg) p0.toNatClampNeg).1
      rw [enc_ge (by omega)]) dX0_nextFrom_8
theorem kX_nextFrom {A0 : Nat → Prop} (S : CallFix p m c cc nL s args lw_all RX0) (hK : va_K D vwCl (tX cS cB) s) (hP : va_P D vwCl (xw a cS cB on bk rl fi se n th le) H) (hA : xAp a 8) {p0 : Int32} (hI : XI on bk rl fi se n) (hS : va_S A0 H0 H locs) (hA0 : ∀ q, xA a 8 q → A0 q) (hsz : ls.size = nL) (hdg : decode cc pc = .ok (.invokevirtual 89, 3)) (kk : ∀ (H1 : Heap) (locs1 : List Loc) (th' le' : Nat → Nat), va_P D vwCl (xw a cS cB on bk rl fi se n th' le') H1 → (∀ q : Nat, q < H.size → ¬ xA a 8 q → H1[q]? = H[q]?) → va_S A0 H0 H1 locs1 → W p l e R s m args below meth c H1 locs1 cells slots Q (F0 m (pc + 3) ls (.int (enc (lst (ansB on rl fi se n) (4096 - p0.toNatClampNeg) p0.toNatClampNeg)) :: rest))) (hR : (rmK 4).frames + 1 ≤ R.frames ∧ 8 + (7 + 11) + (rmK 4).locals ≤ R.locals := by decide) (hW : (rest.map fun v => v.category).sum ≤ 8 := by exact Nat.le_of_ble_eq_true rfl) (hf : cells ≤ R.cells ∧ slots ≤ R.slots := by first | exact ⟨Nat.zero_le _, Nat.zero_le _⟩ | decide) : W p l e R s m args below meth c H locs cells slots Q (F0 m pc ls (.int p0 :: .ref (a 0) :: rest)) :=
  wr_V (v := some (.int (enc (lst (ansB on rl fi se n) (4096 - p0.toNatClampNeg) p0.toNatClampNeg)))) (PP := fun G => ∃ th le, va_P D vwCl (xw a cS cB on bk rl fi se n th le) G) S hK hK hP (ci := 0) rfl rfl (mX_nextFrom l hP hA p0 hI) (cwV 1 S.2.2.2.2 (lw_V q89 q91 qs1 q16 q92) rfl rfl rfl (by decide +kernel) hR) rfl hsz rfl hW hdg hf hS hA0 (fun H1 locs1 h9 hk hS1 => by obtain ⟨th', le', hP'⟩ := h9; exact kk H1 locs1 th' le' hP' hk hS1)
end Methods
end
section
set_option maxRecDepth 100000
/-! ===== lN n to 2^64: shifts, and, or, masks, one bit ===== -/
theorem wb_tb (n : Nat) : (lN n).toBitVec = BitVec.ofNat 64 n := rfl
theorem wb_inj {a b : Int64} (h : a.toBitVec = b.toBitVec) : a = b := Int64.toBitVec_inj.mp h
theorem wb_tn {n : Nat} (h : n < 2 ^ 64) : (lN n).toBitVec.toNat = n := by rw [wb_tb, BitVec.toNat_ofNat, Nat.mod_eq_of_lt h]
theorem wb_of (x : Int64) : ∃ n, n < 2 ^ 64 ∧ x = lN n := ⟨x.toBitVec.toNat, x.toBitVec.isLt, wb_inj (by rw [wb_tb]; simp)⟩
theorem wb_of32 (x : Int32) : ∃ n, n < 2 ^ 32 ∧ x = nI n := ⟨x.toBitVec.toNat, x.toBitVec.isLt, Int32.toBitVec_inj.mp (by show _ = BitVec.ofNat 32 _; simp)⟩
theorem wb_c : ∀ k, k < 64 → ((nI k).toInt64 &&& 63) = lN k := by decide +kernel
theorem wb_cu : ∀ k, k < 64 → ((nI k).toInt64.toUInt64 &&& Int64.toUInt64 63) = UInt64.ofNat k := by decide +kernel
theorem wb_sm : ∀ k, k < 64 → (BitVec.ofNat 64 k).smod 64 = BitVec.ofNat 64 k := by decide +kernel
theorem wb_pw {a b : Nat} (h : a ≤ b) : 2 ^ b = 2 ^ a * 2 ^ (b - a) := by rw [← Nat.pow_add]; congr 1; omega
theorem wb_lt2 {a b : Nat} (h : a < b) : 2 ^ a < 2 ^ b := Nat.pow_lt_pow_right (by decide) h
theorem wb_mod (n : Nat) : lN n = lN (n % 2 ^ 64) := wb_inj (by rw [wb_tb, wb_tb]; apply BitVec.eq_of_toNat_eq; rw [BitVec.toNat_ofNat, BitVec.toNat_ofNat, Nat.mod_mod])
theorem wb_shr {n k : Nat} (hn : n < 2 ^ 64) (hk : k < 64) : ((lN n).toUInt64 >>> ((nI k).toInt64.toUInt64 &&& Int64.toUInt64 63)).toInt64 = lN (n / 2 ^ k) := by
  rw [wb_cu k hk]
  apply wb_inj
  apply BitVec.eq_of_toNat_eq
  show ((lN n).toUInt64 >>> UInt64.ofNat k).toNat = (BitVec.ofNat 64 _).toNat
  have h1 : (UInt64.ofNat k).toNat = k := by
    show (BitVec.ofNat 64 k).toNat = k
    rw [BitVec.toNat_ofNat, Nat.mod_eq_of_lt (by omega)]
  have h2 : (lN n).toUInt64.toNat = n := wb_tn hn
  rw [UInt64.toNat_shiftRight, h1, h2, Nat.mod_eq_of_lt hk, Nat.shiftRight_eq_div_pow, BitVec.toNat_ofNat, Nat.mod_eq_of_lt (Nat.lt_of_le_of_lt (Nat.div_le_self _ _) hn)]
theorem wb_shl (n : Nat) {k : Nat} (hk : k < 64) : lN n <<< ((nI k).toInt64 &&& 63) = lN (n * 2 ^ k) := by
  rw [wb_c k hk]
  apply wb_inj
  rw [Int64.toBitVec_shiftLeft, wb_tb, wb_tb, wb_tb, wb_sm k hk]
  apply BitVec.eq_of_toNat_eq
  rw [BitVec.shiftLeft_eq', BitVec.toNat_shiftLeft, BitVec.toNat_ofNat, BitVec.toNat_ofNat, BitVec.toNat_ofNat, Nat.mod_eq_of_lt (show k < 2 ^ 64 by omega), Nat.shiftLeft_eq, Nat.mul_mod, Nat.mod_mod, ← Nat.mul_mod]
theorem wb_and {a b : Nat} (ha : a < 2 ^ 64) (hb : b < 2 ^ 64) : lN a &&& lN b = lN (a &&& b) := by
  apply wb_inj
  rw [Int64.toBitVec_and, wb_tb, wb_tb, wb_tb]
  apply BitVec.eq_of_toNat_eq
  rw [BitVec.toNat_and, BitVec.toNat_ofNat, BitVec.toNat_ofNat, BitVec.toNat_ofNat, Nat.mod_eq_of_lt ha, Nat.mod_eq_of_lt hb, Nat.mod_eq_of_lt (Nat.and_lt_two_pow _ hb)]
theorem wb_or {a b : Nat} (ha : a < 2 ^ 64) (hb : b < 2 ^ 64) : lN a ||| lN b = lN (a ||| b) := by
  apply wb_inj
  rw [Int64.toBitVec_or, wb_tb, wb_tb, wb_tb]
  apply BitVec.eq_of_toNat_eq
  rw [BitVec.toNat_or, BitVec.toNat_ofNat, BitVec.toNat_ofNat, BitVec.toNat_ofNat, Nat.mod_eq_of_lt ha, Nat.mod_eq_of_lt hb, Nat.mod_eq_of_lt (Nat.or_lt_two_pow ha hb)]
theorem wb_mask {n k : Nat} (hn : n < 2 ^ 64) (hk : k < 64) : lN n &&& lN (2 ^ k - 1) = lN (n % 2 ^ k) := by
  rw [wb_and hn (by have := wb_lt2 hk; omega), Nat.and_two_pow_sub_one_eq_mod]
theorem wb_a1 {n : Nat} (hn : n < 2 ^ 64) : lN n &&& 1 = lN (n % 2) := wb_mask (k := 1) hn (by decide)
/-! the answers of the public methods, as functions of the shared state -/
def putB (z y : Nat) (f : Bool) : Nat := if f = true then setb z y else clr z y
theorem putB_t (z y : Nat) : putB z y true = setb z y := rfl
theorem putB_f (z y : Nat) : putB z y false = clr z y := rfl
theorem putB_lt {z y : Nat} {f : Bool} (h : z < 256) (hy : y < 8) : putB z y f < 256 := by
  cases f
  · exact clr_lt h
  · exact setb_lt h hy
theorem putB_bit {z y w : Nat} {f : Bool} (hw : w < 8) : (putB z y f).testBit w = if y = w then f else z.testBit w := by
  cases f
  · rw [putB_f, clr_bit hw]
    by_cases h : y = w <;> simp [h]
  · rw [putB_t, setb_bit]
    by_cases h : y = w <;> simp [h]
section Vals
variable {on bk rl fi se : Nat → Nat} {n : Nat}
theorem XI_put {r x y : Nat} {f : Bool} (hI : XI on bk rl fi se n) (h3 : r < 3) (hx : x < 8) (hy : y < 8) : XI (va_up on (r * 8 + x) (putB (on (r * 8 + x)) y f)) (va_up bk (r * 8 + y) (putB (bk (r * 8 + y)) x f)) rl fi se n := by
  obtain ⟨h1, h2, g1, g2, g3, g4, hco⟩ := hI
  refine ⟨fun k => ?_, fun k => ?_, g1, g2, g3, g4, fun r' x' y' q1 q2 q3 => ?_⟩
  · unfold va_up; split
    · exact putB_lt (h1 _) hy
    · exact h1 k
  · unfold va_up; split
    · exact putB_lt (h2 _) hx
    · exact h2 k
  · have hc := hco r' x' y' q1 q2 q3
    unfold va_up
    by_cases e1 : r' * 8 + x' = r * 8 + x
    · have er : r' = r := by omega
      have ex : x' = x := by omega
      subst er ex
      rw [if_pos rfl, putB_bit q3]
      by_cases e2 : y = y'
      · subst e2
        rw [if_pos rfl, if_pos rfl, putB_bit q2, if_pos rfl]
      · rw [if_neg e2, if_neg (by omega)]; exact hc
    · rw [if_neg e1]
      by_cases e2 : r' * 8 + y' = r * 8 + y
      · have er : r' = r := by omega
        have ey : y' = y := by omega
        subst er ey
        rw [if_pos rfl, putB_bit q2, if_neg (by omega)]; exact hc
      · rw [if_neg e2]; exact hc
theorem put_back {k z y : Nat} (hz : (on k).testBit y = true) (hk : on k < 256) (hy : y < 8) (h : z = putB (on k) y false) : va_up (va_up on k z) k (putB (va_up on k z k) y true) = on := by
  funext j
  unfold va_up
  by_cases e : j = k
  · subst e
    simp only [if_true]
    refine byte_ext (putB_lt (by rw [h]; exact putB_lt hk hy) hy) hk (fun i hi => ?_)
    rw [h, putB_bit hi]
    by_cases e2 : y = i
    · subst e2; rw [if_pos rfl, hz]
    · rw [if_neg e2, putB_bit hi, if_neg e2]
  · simp [e]
def prOk (p0 p1 p2 : Int32) : Bool := inR p0 3 && inR p1 8 && inR p2 8
def prOn (on : Nat → Nat) (p0 p1 p2 : Int32) (f : Bool) : Nat → Nat := if prOk p0 p1 p2 = true then va_up on (p0.toNatClampNeg * 8 + p1.toNatClampNeg) (putB (on (p0.toNatClampNeg * 8 + p1.toNatClampNeg)) p2.toNatClampNeg f) else on
theorem prOk_n {r x y : Nat} (h3 : r < 3) (hx : x < 8) (hy : y < 8) : prOk (nI r) (nI x) (nI y) = true := by
  unfold prOk
  rw [inR_n (by omega) (by decide), inR_n (by omega) (by decide), inR_n (by omega) (by decide)]
  simp [h3, hx, hy]
theorem prOn_n {r x y : Nat} {f : Bool} (h3 : r < 3) (hx : x < 8) (hy : y < 8) : prOn on (nI r) (nI x) (nI y) f = va_up on (r * 8 + x) (putB (on (r * 8 + x)) y f) := by
  unfold prOn
  rw [if_pos (prOk_n h3 hx hy), nI_clamp (by omega), nI_clamp (by omega), nI_clamp (by omega)]
theorem prOn_f {p0 p1 p2 : Int32} {f : Bool} (h : prOk p0 p1 p2 = false) : prOn on p0 p1 p2 f = on := by
  unfold prOn
  rw [h]; simp
theorem prOn_flip {p0 p1 p2 : Int32} {f : Bool} (h : prOk p0 p2 p1 = false) : prOn on p0 p1 p2 f = on := by
  refine prOn_f ?_
  unfold prOk at h ⊢
  revert h
  cases inR p0 3 <;> cases inR p1 8 <;> cases inR p2 8 <;> simp
def sizeV (on : Nat → Nat) (p0 : Int32) : Int32 := if inR p0 3 = true then nI (cnt (fun k => (on (p0.toNatClampNeg * 8 + k / 8)).testBit (k % 8)) 64) else -1
def atOk (p0 p1 p2 : Int32) : Bool := inR p0 3 && inR p1 4 && inR p2 4
def atV (n : Nat) (p0 p1 p2 : Int32) : Int32 := if atOk p0 p1 p2 = true then (if n < 5 then nI (n + 1) else -2) else -1
def atUp (g : Nat → Nat) (n : Nat) (p0 p1 p2 q : Int32) : Nat → Nat := if atOk p0 p1 p2 = true ∧ n < 5 then va_up g n q.toNatClampNeg else g
def atN (n : Nat) (p0 p1 p2 : Int32) : Nat := if atOk p0 p1 p2 = true ∧ n < 5 then n + 1 else n
theorem atOk_n {r x y : Nat} (h3 : r < 3) (hx : x < 4) (hy : y < 4) : atOk (nI r) (nI x) (nI y) = true := by
  unfold atOk
  rw [inR_n (by omega) (by decide), inR_n (by omega) (by decide), inR_n (by omega) (by decide)]
  simp [h3, hx, hy]
theorem atOk_t {p0 p1 p2 : Int32} (h : atOk p0 p1 p2 = true) : (∃ r, r < 3 ∧ p0 = nI r) ∧ (∃ r, r < 4 ∧ p1 = nI r) ∧ (∃ r, r < 4 ∧ p2 = nI r) := by
  unfold atOk at h
  rw [Bool.and_eq_true, Bool.and_eq_true] at h
  exact ⟨inR_t (by decide) h.1.1, inR_t (by decide) h.1.2, inR_t (by decide) h.2⟩
theorem XI_at {p0 p1 p2 : Int32} (hI : XI on bk rl fi se n) : XI on bk (atUp rl n p0 p1 p2 p0) (atUp fi n p0 p1 p2 p1) (atUp se n p0 p1 p2 p2) (atN n p0 p1 p2) := by
  obtain ⟨h1, h2, g1, g2, g3, g4, hco⟩ := hI
  by_cases h : atOk p0 p1 p2 = true ∧ n < 5
  · obtain ⟨⟨r0, a0, rfl⟩, ⟨r1, a1, rfl⟩, ⟨r2, a2, rfl⟩⟩ := atOk_t h.1
    unfold atUp atN
    rw [if_pos h, if_pos h, if_pos h, if_pos h, nI_clamp (by omega), nI_clamp (by omega), nI_clamp (by omega)]
    refine ⟨h1, h2, fun k => ?_, fun k => ?_, fun k => ?_, by omega, hco⟩
    · unfold va_up; split
      · exact a0
      · exact g1 k
    · unfold va_up; split
      · exact a1
      · exact g2 k
    · unfold va_up; split
      · exact a2
      · exact g3 k
  · unfold atUp atN
    rw [if_neg h, if_neg h, if_neg h, if_neg h]
    exact ⟨h1, h2, g1, g2, g3, g4, hco⟩
theorem XI_drop (hI : XI on bk rl fi se n) : XI on bk rl fi se (n - 1) := by
  obtain ⟨h1, h2, g1, g2, g3, g4, hco⟩ := hI
  exact ⟨h1, h2, g1, g2, g3, by omega, hco⟩
theorem XI_pr {p0 p1 p2 : Int32} {f : Bool} (hI : XI on bk rl fi se n) : XI (prOn on p0 p1 p2 f) (prOn bk p0 p2 p1 f) rl fi se n := by
  by_cases h : prOk p0 p1 p2 = true
  · have h9 := h
    unfold prOk at h9
    rw [Bool.and_eq_true, Bool.and_eq_true] at h9
    obtain ⟨⟨q0, q1⟩, q2⟩ := h9
    obtain ⟨r, a0, rfl⟩ := inR_t (by decide) q0
    obtain ⟨x, a1, rfl⟩ := inR_t (by decide) q1
    obtain ⟨y, a2, rfl⟩ := inR_t (by decide) q2
    rw [prOn_n a0 a1 a2, prOn_n a0 a2 a1]
    exact XI_put hI a0 a1 a2
  · have h := ne_true h
    rw [prOn_f h, prOn_flip h]
    exact hI
end Vals
def drV (n : Nat) : Int32 := if n = 0 then -1 else nI (n - 1)
section Answers
variable {P : Nat → Bool}
def nx (P : Nat → Bool) (k : Nat) : Nat := lst P (4096 - k) k
theorem nx_spec {k : Nat} (hk : k ≤ 4096) : k ≤ nx P k ∧ nx P k ≤ 4096 ∧ (nx P k < 4096 → P (nx P k) = true) ∧ ∀ z, k ≤ z → z < nx P k → P z = false := by
  obtain ⟨h1, h2, h3, h4⟩ := lst_spec P (4096 - k) k
  unfold nx
  exact ⟨h1, by omega, fun q => h3 (by omega), h4⟩
theorem enc_neg {N : Nat} : enc N < 0 ↔ 4096 ≤ N := by
  unfold enc
  split
  · rename_i h
    constructor
    · intro h2; exact absurd h2 (nI_pos (by omega))
    · intro h2; omega
  · rename_i h
    exact ⟨fun _ => by omega, fun _ => by decide⟩
theorem cnt_nx {N : Nat} (hN : N < 4096) (h : P N = true) : cnt P (nx P (N + 1)) = cnt P N + 1 := by
  obtain ⟨h1, h2, h3, h4⟩ := nx_spec (P := P) (k := N + 1) (by omega)
  rw [gap (P := P) (F := cnt P) (fun k hk => cnt_f hk) _ h1 h4, cnt_t h]
theorem cnt_nx0 : cnt P (nx P 0) = 0 := by
  obtain ⟨h1, h2, h3, h4⟩ := nx_spec (P := P) (k := 0) (by omega)
  rw [gap (P := P) (F := cnt P) (fun k hk => cnt_f hk) _ h1 h4]; rfl
/-- the k-th answer -/
def akV (P : Nat → Bool) (p0 : Int32) : Int32 := enc (lst (fun N => P N && decide (nI (cnt P N) = p0)) 4096 0)
theorem ak_neg {p0 : Int32} (h : p0 < 0) : akV P p0 = -1 := by
  have e : lst (fun N => P N && decide (nI (cnt P N) = p0)) 4096 0 = 4096 := by
    refine lst_eq (by decide) (by decide) (fun q => absurd q (by decide)) (fun z _ hz => ?_)
    have h1 := cnt_le P z
    have : ¬ nI (cnt P z) = p0 := fun q => absurd h (by rw [← q]; exact nI_pos (by omega))
    simp [this]
  unfold akV
  rw [e]; rfl
theorem ak_fin {N i : Nat} (hN : N ≤ 4096) (h1 : N < 4096 → P N = true ∧ cnt P N = i) (h2 : N = 4096 → cnt P 4096 ≤ i) (hi : i < 2 ^ 31) {q : Nat} (hq : i ≤ q) (hq2 : q < 2 ^ 31) (hx : N = 4096 ∨ i = q) : akV P (nI q) = enc N := by
  have e : lst (fun N => P N && decide (nI (cnt P N) = nI q)) 4096 0 = N := by
    refine lst_eq (Nat.zero_le _) (by omega) (fun q2 => ?_) (fun z _ hz => ?_)
    · have q3 : N < 4096 := by omega
      obtain ⟨a, b⟩ := h1 q3
      have : i = q := by omega
      simp [a, b, this]
    · cases hPz : P z with
      | false => rfl
      | true =>
        have c1 := cnt_lt hPz hz
        have c2 := cnt_le P z
        have c3 : cnt P N ≤ i := by
          rcases Nat.lt_or_ge N 4096 with q3 | q3
          · exact Nat.le_of_eq (h1 q3).2
          · have e4 : N = 4096 := by omega
            rw [e4]; exact h2 e4
        have : ¬ nI (cnt P z) = nI q := by rw [nI_eq (by omega) hq2]; omega
        simp [this]
  unfold akV
  rw [e]
def skV (P : Nat → Bool) (p0 : Int32) : Int32 := enc (lst P (4096 - p0.toNatClampNeg) p0.toNatClampNeg)
theorem sk_eq {p0 : Int32} : enc (lst (fun N => !decide (nI N < p0) && P N) 4096 0) = skV P p0 := by
  unfold skV
  generalize hq : p0.toNatClampNeg = q
  have hlt : ∀ N, N < 4096 → (nI N < p0 ↔ N < q) := by
    intro N hN
    rw [Int32.lt_iff_toInt_lt, nI_toInt (by omega)]
    have : p0.toInt.toNat = q := hq
    omega
  rcases Nat.lt_or_ge q 4096 with h | h
  · congr 1
    obtain ⟨g1, g2, g3, g4⟩ := lst_spec P (4096 - q) q
    refine lst_eq (Nat.zero_le _) (by omega) (fun h1 => ?_) (fun z _ hz => ?_)
    · have h2 : lst P (4096 - q) q < 4096 := by omega
      have : ¬ nI (lst P (4096 - q) q) < p0 := by rw [hlt _ h2]; omega
      simp [this, g3 (by omega)]
    · rcases Nat.lt_or_ge z q with h1 | h1
      · have : nI z < p0 := by rw [hlt _ (by omega)]; exact h1
        simp [this]
      · simp [g4 z h1 hz]
  · have e : lst (fun N => !decide (nI N < p0) && P N) 4096 0 = 4096 := by
      refine lst_eq (by decide) (by decide) (fun q => absurd q (by decide)) (fun z _ hz => ?_)
      have : nI z < p0 := by rw [hlt _ hz]; omega
      simp [this]
    have g1 := (lst_spec P (4096 - q) q).1
    rw [e, enc_ge (by decide), enc_ge (by omega)]
def vset (P : Nat → Bool) (v : Nat) : Nat → Nat
  | 0 => 0
  | k + 1 => if P k = true then vset P v k ||| 2 ^ dg k v else vset P v k
theorem vset_f {v k : Nat} (h : P k = false) : vset P v (k + 1) = vset P v k := by simp [vset, h]
theorem vset_t {v k : Nat} (h : P k = true) : vset P v (k + 1) = vset P v k ||| 2 ^ dg k v := by simp [vset, h]
def vaV (P : Nat → Bool) (p0 : Int32) : Int32 := nI (if inR p0 4 = true then vset P p0.toNatClampNeg 4096 else 0)
def cwB (P : Nat → Bool) (v : Nat) (p1 : Int32) (N : Nat) : Bool := P N && decide (nI (dg N v) = p1)
def cwV_ (P : Nat → Bool) (p0 p1 : Int32) : Int32 := nI (if inR p0 4 = true then cnt (cwB P p0.toNatClampNeg p1) 4096 else 0)
def hoV (P : Nat → Bool) (p0 : Int32) : Bool := inR p0 4096 && P p0.toNatClampNeg
theorem ho_n {q : Nat} (hq : q < 2 ^ 31) : hoV P (nI q) = decide (enc (nx P q) = nI q) := by
  unfold hoV
  rw [inR_n hq (by decide), nI_clamp hq]
  rcases Nat.lt_or_ge q 4096 with h | h
  · obtain ⟨h1, h2, h3, h4⟩ := nx_spec (P := P) (k := q) (by omega)
    cases hP : P q with
    | true =>
      have e : nx P q = q := by
        rcases Nat.lt_or_ge q (nx P q) with a | a
        · rw [h4 q (Nat.le_refl _) a] at hP; cases hP
        · omega
      rw [e, enc_lt h]; simp [h]
    | false =>
      have : ¬ enc (nx P q) = nI q := by
        intro h9
        rcases Nat.lt_or_ge (nx P q) 4096 with a | a
        · rw [enc_lt a, nI_eq (by omega) hq] at h9
          have := h3 a
          rw [h9, hP] at this; cases this
        · rw [enc_ge (by omega)] at h9
          exact absurd (show (-1 : Int32) < 0 by decide) (by rw [h9]; exact nI_pos hq)
      simp [this]
  · have e : enc (nx P q) = -1 := by
      unfold nx
      have g1 := (lst_spec P (4096 - q) q).1
      exact enc_ge (by omega)
    have : ¬ enc (nx P q) = nI q := by
      intro h9
      rw [e] at h9
      exact absurd (show (-1 : Int32) < 0 by decide) (by rw [h9]; exact nI_pos hq)
    simp [this]; omega
def plc (v w N : Nat) : Nat := 8 * dg N v + dg N w
theorem plc_lt (v w N : Nat) : plc v w N < 64 := by
  have h1 := dg_lt N v
  have h2 := dg_lt N w
  unfold plc; omega
def pset (P : Nat → Bool) (v w : Nat) : Nat → Nat
  | 0 => 0
  | k + 1 => if P k = true then pset P v w k ||| 2 ^ plc v w k else pset P v w k
theorem pset_f {v w k : Nat} (h : P k = false) : pset P v w (k + 1) = pset P v w k := by simp [pset, h]
theorem pset_t {v w k : Nat} (h : P k = true) : pset P v w (k + 1) = pset P v w k ||| 2 ^ plc v w k := by simp [pset, h]
theorem pset_lt (v w : Nat) : ∀ k, pset P v w k < 2 ^ 64
  | 0 => Nat.two_pow_pos 64
  | k + 1 => by
    unfold pset
    split
    · exact Nat.or_lt_two_pow (pset_lt v w k) (wb_lt2 (plc_lt v w k))
    · exact pset_lt v w k
def paS (P : Nat → Bool) (p0 p1 : Int32) : Nat := if (inR p0 4 && inR p1 4) = true then pset P p0.toNatClampNeg p1.toNatClampNeg 4096 else 0
def paV (P : Nat → Bool) (p0 p1 : Int32) : Nat := cnt (fun k => (paS P p0 p1).testBit k) 64
def ptV (on bk : Nat → Nat) (p0 p1 p2 : Int32) : Int32 := if (inR p0 3 && inR p1 8) = true then (if p2 = 0 then nI (on (p0.toNatClampNeg * 8 + p1.toNatClampNeg)) else if p2 = 1 then nI (bk (p0.toNatClampNeg * 8 + p1.toNatClampNeg)) else 0) else 0
def loV (on rl fi se : Nat → Nat) (n : Nat) (p0 p1 p2 : Int32) : Int32 := if prOk p0 p1 p2 = true then (if (on (p0.toNatClampNeg * 8 + p1.toNatClampNeg)).testBit p2.toNatClampNeg = true then nI (cnt (ansB on rl fi se n) 4096) - nI (cnt (ansB (prOn on p0 p1 p2 false) rl fi se n) 4096) else 0) else -1
end Answers
theorem cnt_add (f : Nat → Bool) (x : Nat) : ∀ k, cnt f (x + k) = cnt f x + cnt (fun i => f (x + i)) k
  | 0 => rfl
  | k + 1 => by
    have ih := cnt_add f x k
    show cnt f (x + k + 1) = _
    cases h : f (x + k) with
    | true => rw [cnt_t h, ih, cnt_t (f := fun i => f (x + i)) h]; omega
    | false => rw [cnt_f h, ih, cnt_f (f := fun i => f (x + i)) h]
theorem size_step (g : Nat → Nat) (r x : Nat) : cnt (fun k => (g (r * 8 + k / 8)).testBit (k % 8)) (8 * (x + 1)) = cnt (fun k => (g (r * 8 + k / 8)).testBit (k % 8)) (8 * x) + cnt (fun y => (g (r * 8 + x)).testBit y) 8 := by
  rw [Nat.mul_add, cnt_add]
  congr 1
  refine cnt_congr 8 (fun i hi => ?_)
  have e1 : (8 * x + i) / 8 = x := by omega
  have e2 : (8 * x + i) % 8 = i := by omega
  show (g (r * 8 + (8 * x + i) / 8)).testBit ((8 * x + i) % 8) = _
  rw [e1, e2]
end
section
set_option maxRecDepth 100000
section Methods
variable {p : Program} {l : Launch} {e : Env} {R : Room} {s : State} {m : MethodId} {args : Array Value} {below : List Frame} {meth : Method} {c : Code} {H H0 : Heap} {locs : List Loc} {cells slots : Nat} {Q : State → Prop} {cc : ByteArray} {pc nL : Nat} {ls : Array Slot} {rest : List Value} {own : String}
variable {D : va_G} {a b : Nat → Nat} {cS cB cI cZ : ClassId} {on bk rl fi se th le : Nat → Nat} {n : Nat} {sn : Nat → Bool}
theorem paS_lt (P : Nat → Bool) (p0 p1 : Int32) : paS P p0 p1 < 2 ^ 64 := by
  unfold paS
  split
  · exact pset_lt _ _ _
  · exact Nat.two_pow_pos 64
theorem ltop {x y : Int64} (h : x = y) (k : W p l e R s m args below meth c H locs cells slots Q (F0 m pc ls (.long y :: rest))) : W p l e R s m args below meth c H locs cells slots Q (F0 m pc ls (.long x :: rest)) := by
  subst h; exact k
/-- nextFrom at a natural number -/
theorem kX_nx {A0 : Nat → Prop} (S : CallFix p m c cc nL s args lw_all RX0) (hK : va_K D vwCl (tX cS cB) s) (hP : va_P D vwCl (xw a cS cB on bk rl fi se n th le) H) (hA : xAp a 8) {k : Nat} (hk : k < 2 ^ 31) (hI : XI on bk rl fi se n) (hS : va_S A0 H0 H locs) (hA0 : ∀ q, xA a 8 q → A0 q) (hsz : ls.size = nL) (hdg : decode cc pc = .ok (.invokevirtual 89, 3)) (kk : ∀ (H1 : Heap) (locs1 : List Loc) (th' le' : Nat → Nat), va_P D vwCl (xw a cS cB on bk rl fi se n th' le') H1 → va_S A0 H0 H1 locs1 → W p l e R s m args below meth c H1 locs1 cells slots Q (F0 m (pc + 3) ls (.int (enc (nx (ansB on rl fi se n) k)) :: rest))) (hR : (rmK 4).frames + 1 ≤ R.frames ∧ 8 + (7 + 11) + (rmK 4).locals ≤ R.locals := by decide) (hW : (rest.map fun v => v.category).sum ≤ 8 := by exact Nat.le_of_ble_eq_true rfl) (hf : cells ≤ R.cells ∧ slots ≤ R.slots := by first | exact ⟨Nat.zero_le _, Nat.zero_le _⟩ | decide) : W p l e R s m args below meth c H locs cells slots Q (F0 m pc ls (.int (nI k) :: .ref (a 0) :: rest)) := by
  refine kX_nextFrom S hK hP hA (p0 := nI k) hI hS hA0 hsz hdg (fun H1 locs1 th' le' hP' _ hS' => ?_) hR hW hf
  rw [nI_clamp hk]
  exact kk H1 locs1 th' le' hP' hS'
theorem mX_put (l : Launch) (hP : va_P D vwCl (xw a cS cB on bk rl fi se n th le) H) (hA : xAp a 8) (r : Nat) (x : Nat) (y : Nat) (f : Bool) (hI : XI on bk rl fi se n) (h3 : r < 3) (hx : x < 8) (hy : y < 8) : Met l yX0_put (ws_ yX0_put cX0_put 7 none) (rmK 0) (va_Pc [.ref (a 0), .int (nI r), .int (nI x), .int (nI y), .int (bI f)] (fun U => U.heap = H ∧ va_K D vwCl (tX cS cB) U)) (XQ D a cS cB none (va_up on (r * 8 + x) (putB (on (r * 8 + x)) y f)) (va_up bk (r * 8 + y) (putB (bk (r * 8 + y)) x f)) rl fi se n) 0 0 (xA a 8) := by
  refine anyMet (by decide) (Nat.le_of_ble_eq_true rfl) (fun p e s m below meth c S hr hlk hin hH hK ls hl => ?_)
  have S : CallFix p m c cX0_put 7 s _ lw_all RX0 := S
  have hl : lv_has ls 7 [(0, .ref (a 0)), (1, .int (nI r)), (2, .int (nI x)), (3, .int (nI y)), (4, .int (bI f))] := hl
  have hS : va_S (xA a 8) s.heap H [] := by rw [hH]; exact va_S.rf
  have hI0 := hI
  obtain ⟨hon, hbk, -⟩ := hI
  have c1 := hon (r * 8 + x)
  have c2 := hbk (r * 8 + y)
  refine lv_iload_n S.1 S.2.1 dX0_put_0 rfl (lv_at hl 1 rfl) ?_
  refine lv_bipush (v := (nI 8)) S.1 S.2.1 dX0_put_1 (by decide) ?_
  refine n_imul S dX0_put_3 ?_
  refine lv_iload_n S.1 S.2.1 dX0_put_4 rfl (lv_at hl 2 rfl) ?_
  refine n_iadd S dX0_put_5 ?_
  refine lv_istore (lv' := [(5, .int (nI ((r * 8) + x))), (0, .ref (a 0)), (1, .int (nI r)), (2, .int (nI x)), (3, .int (nI y)), (4, .int (bI f))]) S.1 S.2.1 dX0_put_6 hl (by decide) rfl (fun ls hl => ?_)
  refine lv_iload_n S.1 S.2.1 dX0_put_8 rfl (lv_at hl 2 rfl) ?_
  refine lv_bipush (v := (nI 8)) S.1 S.2.1 dX0_put_9 (by decide) ?_
  refine n_imul S dX0_put_11 ?_
  refine lv_iload_n S.1 S.2.1 dX0_put_12 rfl (lv_at hl 4 rfl) ?_
  refine n_iadd S dX0_put_13 ?_
  refine lv_istore (lv' := [(6, .int (nI ((r * 8) + y))), (5, .int (nI ((r * 8) + x))), (0, .ref (a 0)), (1, .int (nI r)), (2, .int (nI x)), (3, .int (nI y)), (4, .int (bI f))]) S.1 S.2.1 dX0_put_14 hl (by decide) rfl (fun ls hl => ?_)
  refine lv_aload_n S.1 S.2.1 dX0_put_16 rfl (lv_at hl 2 rfl) ?_
  refine gX_on S hK hP dX0_put_17 ?_
  refine lv_iload S.1 S.2.1 dX0_put_20 (lv_at hl 1 rfl) ?_
  refine lv_iload S.1 S.2.1 dX0_put_22 (lv_at hl 6 rfl) ?_
  refine z_eq (tgt := 41) S dX0_put_24 (by decide) (fun h1 => ?_) (fun h1 => ?_)
  · subst h1
    refine lv_aload_n S.1 S.2.1 dX0_put_41 rfl (lv_at hl 2 rfl) ?_
    refine gX_on S hK hP dX0_put_42 ?_
    refine lv_iload S.1 S.2.1 dX0_put_45 (lv_at hl 1 rfl) ?_
    refine lX_on S hK hP (by omega) dX0_put_47 ?_
    refine lv_iconst (v := (nI 1)) S.1 S.2.1 dX0_put_48 (by decide) ?_
    refine lv_iload_n S.1 S.2.1 dX0_put_49 rfl (lv_at hl 5 rfl) ?_
    refine n_ishl1 S (by omega) dX0_put_50 ?_
    refine lv_iconst (v := (-1)) S.1 S.2.1 dX0_put_51 (by decide) ?_
    refine lv_ixor S.1 S.2.1 dX0_put_52 ?_
    refine lv_iand S.1 S.2.1 dX0_put_53 ?_
    refine n_top (y := (nI (clr (on ((r * 8) + x)) y))) (nm_clr _ (by omega) _ c1) ?_
    refine lv_i2s (v := nI (clr (on ((r * 8) + x)) y)) S.1 S.2.1 dX0_put_54 (nm_s _ (clr_lt c1)) ?_
    refine sX_on S hK hP hA hS (by omega) (clr_lt c1) dX0_put_55 (fun H locs hP hS => ?_)
    refine lv_aload_n S.1 S.2.1 dX0_put_56 rfl (lv_at hl 2 rfl) ?_
    refine gX_bk S hK hP dX0_put_57 ?_
    refine lv_iload S.1 S.2.1 dX0_put_60 (lv_at hl 0 rfl) ?_
    refine lv_iload S.1 S.2.1 dX0_put_62 (lv_at hl 6 rfl) ?_
    refine z_eq (tgt := 81) S dX0_put_64 (by decide) (fun h2 => ?_) (fun h2 => ?_)
    · refine lv_aload_n S.1 S.2.1 dX0_put_81 rfl (lv_at hl 2 rfl) ?_
      refine gX_bk S hK hP dX0_put_82 ?_
      refine lv_iload S.1 S.2.1 dX0_put_85 (lv_at hl 0 rfl) ?_
      refine lX_bk S hK hP (by omega) dX0_put_87 ?_
      refine lv_iconst (v := (nI 1)) S.1 S.2.1 dX0_put_88 (by decide) ?_
      refine lv_iload_n S.1 S.2.1 dX0_put_89 rfl (lv_at hl 4 rfl) ?_
      refine n_ishl1 S (by omega) dX0_put_90 ?_
      refine lv_iconst (v := (-1)) S.1 S.2.1 dX0_put_91 (by decide) ?_
      refine lv_ixor S.1 S.2.1 dX0_put_92 ?_
      refine lv_iand S.1 S.2.1 dX0_put_93 ?_
      refine n_top (y := (nI (clr (bk ((r * 8) + y)) x))) (nm_clr _ (by omega) _ c2) ?_
      refine lv_i2s (v := nI (clr (bk ((r * 8) + y)) x)) S.1 S.2.1 dX0_put_94 (nm_s _ (clr_lt c2)) ?_
      refine sX_bk S hK hP hA hS (by omega) (clr_lt c2) dX0_put_95 (fun H locs hP hS => ?_)
      exact xr_void S hr hlk hP hS dX0_put_96
    · cases h2
  · subst h1
    refine lv_aload_n S.1 S.2.1 dX0_put_27 rfl (lv_at hl 2 rfl) ?_
    refine gX_on S hK hP dX0_put_28 ?_
    refine lv_iload S.1 S.2.1 dX0_put_31 (lv_at hl 1 rfl) ?_
    refine lX_on S hK hP (by omega) dX0_put_33 ?_
    refine lv_iconst (v := (nI 1)) S.1 S.2.1 dX0_put_34 (by decide) ?_
    refine lv_iload_n S.1 S.2.1 dX0_put_35 rfl (lv_at hl 5 rfl) ?_
    refine n_ishl1 S (by omega) dX0_put_36 ?_
    refine n_ior S dX0_put_37 ?_
    refine n_top (y := (nI (setb (on (r * 8 + x)) y))) rfl ?_
    refine lv_goto (tgt := 54) S.1 S.2.1 dX0_put_38 (by decide) ?_
    refine lv_i2s (v := nI (setb (on (r * 8 + x)) y)) S.1 S.2.1 dX0_put_54 (nm_s _ (setb_lt c1 hy)) ?_
    refine sX_on S hK hP hA hS (by omega) (setb_lt c1 hy) dX0_put_55 (fun H locs hP hS => ?_)
    refine lv_aload_n S.1 S.2.1 dX0_put_56 rfl (lv_at hl 2 rfl) ?_
    refine gX_bk S hK hP dX0_put_57 ?_
    refine lv_iload S.1 S.2.1 dX0_put_60 (lv_at hl 0 rfl) ?_
    refine lv_iload S.1 S.2.1 dX0_put_62 (lv_at hl 6 rfl) ?_
    refine z_eq (tgt := 81) S dX0_put_64 (by decide) (fun h2 => ?_) (fun h2 => ?_)
    · cases h2
    · refine lv_aload_n S.1 S.2.1 dX0_put_67 rfl (lv_at hl 2 rfl) ?_
      refine gX_bk S hK hP dX0_put_68 ?_
      refine lv_iload S.1 S.2.1 dX0_put_71 (lv_at hl 0 rfl) ?_
      refine lX_bk S hK hP (by omega) dX0_put_73 ?_
      refine lv_iconst (v := (nI 1)) S.1 S.2.1 dX0_put_74 (by decide) ?_
      refine lv_iload_n S.1 S.2.1 dX0_put_75 rfl (lv_at hl 4 rfl) ?_
      refine n_ishl1 S (by omega) dX0_put_76 ?_
      refine n_ior S dX0_put_77 ?_
      refine n_top (y := (nI (setb (bk (r * 8 + y)) x))) rfl ?_
      refine lv_goto (tgt := 94) S.1 S.2.1 dX0_put_78 (by decide) ?_
      refine lv_i2s (v := nI (setb (bk (r * 8 + y)) x)) S.1 S.2.1 dX0_put_94 (nm_s _ (setb_lt c2 hx)) ?_
      refine sX_bk S hK hP hA hS (by omega) (setb_lt c2 hx) dX0_put_95 (fun H locs hP hS => ?_)
      exact xr_void S hr hlk hP hS dX0_put_96
theorem kX_put {A0 : Nat → Prop} (S : CallFix p m c cc nL s args lw_all RX0) (hK : va_K D vwCl (tX cS cB) s) (hP : va_P D vwCl (xw a cS cB on bk rl fi se n th le) H) (hA : xAp a 8) {r : Nat} {x : Nat} {y : Nat} {f : Bool} (hI : XI on bk rl fi se n) (h3 : r < 3) (hx : x < 8) (hy : y < 8) (hS : va_S A0 H0 H locs) (hA0 : ∀ q, xA a 8 q → A0 q) (hsz : ls.size = nL) (hdg : decode cc pc = .ok (.invokevirtual 39, 3)) (kk : ∀ (H1 : Heap) (locs1 : List Loc) (th' le' : Nat → Nat), va_P D vwCl (xw a cS cB (va_up on (r * 8 + x) (putB (on (r * 8 + x)) y f)) (va_up bk (r * 8 + y) (putB (bk (r * 8 + y)) x f)) rl fi se n th' le') H1 → (∀ q : Nat, q < H.size → ¬ xA a 8 q → H1[q]? = H[q]?) → va_S A0 H0 H1 locs1 → W p l e R s m args below meth c H1 locs1 cells slots Q (F0 m (pc + 3) ls (rest))) (hR : (rmK 0).frames + 1 ≤ R.frames ∧ 8 + (7 + 11) + (rmK 0).locals ≤ R.locals := by decide) (hW : (rest.map fun v => v.category).sum ≤ 8 := by exact Nat.le_of_ble_eq_true rfl) (hf : cells ≤ R.cells ∧ slots ≤ R.slots := by first | exact ⟨Nat.zero_le _, Nat.zero_le _⟩ | decide) : W p l e R s m args below meth c H locs cells slots Q (F0 m pc ls (.int (bI f) :: .int (nI y) :: .int (nI x) :: .int (nI r) :: .ref (a 0) :: rest)) :=
  wr_V (v := none) (PP := fun G => ∃ th le, va_P D vwCl (xw a cS cB (va_up on (r * 8 + x) (putB (on (r * 8 + x)) y f)) (va_up bk (r * 8 + y) (putB (bk (r * 8 + y)) x f)) rl fi se n th le) G) S hK hK hP (ci := 0) rfl rfl (mX_put l hP hA r x y f hI h3 hx hy) (cwV 4 S.2.2.2.2 (lw_V q63 q65 qs0 q16 q66) rfl rfl rfl (by decide +kernel) hR) rfl hsz rfl hW hdg hf hS hA0 (fun H1 locs1 h9 hk hS1 => by obtain ⟨th', le', hP'⟩ := h9; exact kk H1 locs1 th' le' hP' hk hS1)
theorem mX_pair (l : Launch) (hP : va_P D vwCl (xw a cS cB on bk rl fi se n th le) H) (hA : xAp a 8) (p0 : Int32) (p1 : Int32) (p2 : Int32) (f : Bool) (hI : XI on bk rl fi se n) : Met l yX0_pair (ws_ yX0_pair cX0_pair 5 (some .boolean)) (rmK 1) (va_Pc [.ref (a 0), .int p0, .int p1, .int p2, .int (bI f)] (fun U => U.heap = H ∧ va_K D vwCl (tX cS cB) U)) (XQ D a cS cB (some (.int (bI (prOk p0 p1 p2)))) (prOn on p0 p1 p2 f) (prOn bk p0 p2 p1 f) rl fi se n) 0 0 (xA a 8) := by
  refine anyMet (by decide) (Nat.le_of_ble_eq_true rfl) (fun p e s m below meth c S hr hlk hin hH hK ls hl => ?_)
  have S : CallFix p m c cX0_pair 5 s _ lw_all RX0 := S
  have hl : lv_has ls 5 [(0, .ref (a 0)), (1, .int p0), (2, .int p1), (3, .int p2), (4, .int (bI f))] := hl
  have hS : va_S (xA a 8) s.heap H [] := by rw [hH]; exact va_S.rf
  have hI0 := hI
  refine lv_iload_n S.1 S.2.1 dX0_pair_0 rfl (lv_at hl 1 rfl) ?_
  refine kX_isRelation S (p0 := p0) hl.1 dX0_pair_1 ?_
  refine z_eq (tgt := 21) S dX0_pair_4 (by decide) (fun h1 => ?_) (fun h1 => ?_)
  · have ok : prOk p0 p1 p2 = false := by simp [prOk, h1]
    rw [prOn_f ok, prOn_flip ok]
    refine lv_iconst (v := (bI false)) S.1 S.2.1 dX0_pair_21 (by decide) ?_
    exact xr_bool S hr hlk hP hS ok.symm dX0_pair_22
  · refine lv_iload_n S.1 S.2.1 dX0_pair_7 rfl (lv_at hl 2 rfl) ?_
    refine kX_isThing S (p0 := p1) hl.1 dX0_pair_8 ?_
    refine z_eq (tgt := 21) S dX0_pair_11 (by decide) (fun h2 => ?_) (fun h2 => ?_)
    · have ok : prOk p0 p1 p2 = false := by simp [prOk, h1, h2]
      rw [prOn_f ok, prOn_flip ok]
      refine lv_iconst (v := (bI false)) S.1 S.2.1 dX0_pair_21 (by decide) ?_
      exact xr_bool S hr hlk hP hS ok.symm dX0_pair_22
    · refine lv_iload_n S.1 S.2.1 dX0_pair_14 rfl (lv_at hl 3 rfl) ?_
      refine kX_isThing S (p0 := p2) hl.1 dX0_pair_15 ?_
      refine z_ne (tgt := 23) S dX0_pair_18 (by decide) (fun h3 => ?_) (fun h3 => ?_)
      · obtain ⟨r, e1, rfl⟩ := inR_t (by decide) h1
        obtain ⟨x, e2, rfl⟩ := inR_t (by decide) h2
        obtain ⟨y, e3, rfl⟩ := inR_t (by decide) h3
        refine lv_aload_n S.1 S.2.1 dX0_pair_23 rfl (lv_at hl 0 rfl) ?_
        refine lv_iload_n S.1 S.2.1 dX0_pair_24 rfl (lv_at hl 1 rfl) ?_
        refine lv_iload_n S.1 S.2.1 dX0_pair_25 rfl (lv_at hl 2 rfl) ?_
        refine lv_iload_n S.1 S.2.1 dX0_pair_26 rfl (lv_at hl 3 rfl) ?_
        refine lv_iload S.1 S.2.1 dX0_pair_27 (lv_at hl 4 rfl) ?_
        rw [prOn_n e1 e2 e3, prOn_n e1 e3 e2]
        refine kX_put S hK hP hA (r := r) (x := x) (y := y) (f := f) hI0 e1 e2 e3 hS (fun q h => h) hl.1 dX0_pair_29 (fun H locs th le hP _ hS => ?_)
        refine lv_iconst (v := (bI true)) S.1 S.2.1 dX0_pair_32 (by decide) ?_
        exact xr_bool S hr hlk hP hS (prOk_n e1 e2 e3).symm dX0_pair_33
      · have ok : prOk p0 p1 p2 = false := by simp [prOk, h1, h2, h3]
        rw [prOn_f ok, prOn_flip ok]
        refine lv_iconst (v := (bI false)) S.1 S.2.1 dX0_pair_21 (by decide) ?_
        exact xr_bool S hr hlk hP hS ok.symm dX0_pair_22
theorem mX_size (l : Launch) (hP : va_P D vwCl (xw a cS cB on bk rl fi se n th le) H) (p0 : Int32) (hI : XI on bk rl fi se n) : Met l yX0_size (ws_ yX0_size cX0_size 4 (some .int)) (rmK 1) (va_Pc [.ref (a 0), .int p0] (fun U => U.heap = H ∧ va_K D vwCl (tX cS cB) U)) (QcRead ((sizeV on p0))) 0 0 (fun _ => False) := by
  refine anyMet (by decide) (Nat.le_of_ble_eq_true rfl) (fun p e s m below meth c S hr hlk hin hH hK ls hl => ?_)
  have S : CallFix p m c cX0_size 4 s _ lw_all RX0 := S
  have hl : lv_has ls 4 [(0, .ref (a 0)), (1, .int p0)] := hl
  have hon := hI.1
  refine lv_iload_n S.1 S.2.1 dX0_size_0 rfl (lv_at hl 1 rfl) ?_
  refine kX_isRelation S (p0 := p0) hl.1 dX0_size_1 ?_
  refine z_ne (tgt := 9) S dX0_size_4 (by decide) (fun h1 => ?_) (fun h1 => ?_)
  · obtain ⟨r, e1, rfl⟩ := inR_t (by decide) h1
    refine lv_iconst (v := (nI 0)) S.1 S.2.1 dX0_size_9 (by decide) ?_
    refine lv_istore_n (lv' := [(2, .int (nI 0)), (0, .ref (a 0)), (1, .int (nI r))]) S.1 S.2.1 dX0_size_10 rfl hl (by decide) rfl (fun ls hl => ?_)
    refine lv_iconst (v := (nI 0)) S.1 S.2.1 dX0_size_11 (by decide) ?_
    refine lv_istore_n (lv' := [(3, .int (nI 0)), (2, .int (nI 0)), (0, .ref (a 0)), (1, .int (nI r))]) S.1 S.2.1 dX0_size_12 rfl hl (by decide) rfl (fun ls hl => ?_)
    refine loopR (α := Nat) (fun x ls => lv_has ls 4 [(3, .int (nI x)), (2, .int (nI (cnt (fun k => (on (r * 8 + k / 8)).testBit (k % 8)) (8 * x)))), (0, .ref (a 0)), (1, .int (nI r))] ∧ x ≤ 8) (fun x => 8 - x) (fun x ls hJ ih => ?_) 0 ls ⟨lv_sub hl [0, 1, 2, 3] rfl, by decide⟩
    obtain ⟨hl, hx⟩ := hJ
    refine lv_iload_n S.1 S.2.1 dX0_size_13 rfl (lv_at hl 0 rfl) ?_
    refine lv_bipush (v := (nI 8)) S.1 S.2.1 dX0_size_14 (by decide) ?_
    refine n_ge (tgt := 42) S dX0_size_16 (by decide) (fun h2 => ?_) (fun h2 => ?_)
    · have e9 : x = 8 := by omega
      subst e9
      refine lv_iload_n S.1 S.2.1 dX0_size_42 rfl (lv_at hl 1 rfl) ?_
      exact r_int S hr hlk hH (by unfold sizeV; rw [if_pos h1, nI_clamp (by omega)]) dX0_size_43
    · refine lv_iload_n S.1 S.2.1 dX0_size_19 rfl (lv_at hl 1 rfl) ?_
      refine lv_aload_n S.1 S.2.1 dX0_size_20 rfl (lv_at hl 2 rfl) ?_
      refine gX_on S hK hP dX0_size_21 ?_
      refine lv_iload_n S.1 S.2.1 dX0_size_24 rfl (lv_at hl 3 rfl) ?_
      refine lv_bipush (v := (nI 8)) S.1 S.2.1 dX0_size_25 (by decide) ?_
      refine n_imul S dX0_size_27 ?_
      refine lv_iload_n S.1 S.2.1 dX0_size_28 rfl (lv_at hl 0 rfl) ?_
      refine n_iadd S dX0_size_29 ?_
      refine lX_on S hK hP (by omega) dX0_size_30 ?_
      have c1 := hon (r * 8 + x)
      refine kX_ones S (w := on (r * 8 + x)) c1 hl.1 dX0_size_31 ?_
      refine n_iadd S dX0_size_34 ?_
      refine lv_istore_n (lv' := [(2, .int (nI ((cnt (fun k => (on (r * 8 + k / 8)).testBit (k % 8)) (8 * x)) + (cnt (fun y => (on (r * 8 + x)).testBit y) 8)))), (3, .int (nI x)), (0, .ref (a 0)), (1, .int (nI r))]) S.1 S.2.1 dX0_size_35 rfl hl (by decide) rfl (fun ls hl => ?_)
      refine n_iinc (x := x) (k := 1) (lv' := [(3, .int (nI (x + 1))), (2, .int (nI ((cnt (fun k => (on (r * 8 + k / 8)).testBit (k % 8)) (8 * x)) + (cnt (fun y => (on (r * 8 + x)).testBit y) 8)))), (0, .ref (a 0)), (1, .int (nI r))]) S dX0_size_36 hl rfl (by decide) rfl (fun ls hl => ?_)
      refine lv_goto (tgt := 13) S.1 S.2.1 dX0_size_39 (by decide) ?_
      refine ih (x + 1) ls ⟨?_, by omega⟩ (by omega)
      rw [size_step]
      exact lv_sub hl [0, 1, 2, 3] rfl
  · refine lv_iconst (v := (-1)) S.1 S.2.1 dX0_size_7 (by decide) ?_
    exact r_int S hr hlk hH (by simp [sizeV, h1]) dX0_size_8
theorem mX_atom (l : Launch) (hP : va_P D vwCl (xw a cS cB on bk rl fi se n th le) H) (hA : xAp a 8) (p0 : Int32) (p1 : Int32) (p2 : Int32) (hI : XI on bk rl fi se n) : Met l yX0_atom (ws_ yX0_atom cX0_atom 4 (some .int)) (rmK 1) (va_Pc [.ref (a 0), .int p0, .int p1, .int p2] (fun U => U.heap = H ∧ va_K D vwCl (tX cS cB) U)) (XQ D a cS cB (some (.int (atV n p0 p1 p2))) on bk (atUp rl n p0 p1 p2 p0) (atUp fi n p0 p1 p2 p1) (atUp se n p0 p1 p2 p2) (atN n p0 p1 p2)) 0 0 (xA a 8) := by
  refine anyMet (by decide) (Nat.le_of_ble_eq_true rfl) (fun p e s m below meth c S hr hlk hin hH hK ls hl => ?_)
  have S : CallFix p m c cX0_atom 4 s _ lw_all RX0 := S
  have hl : lv_has ls 4 [(0, .ref (a 0)), (1, .int p0), (2, .int p1), (3, .int p2)] := hl
  have hS : va_S (xA a 8) s.heap H [] := by rw [hH]; exact va_S.rf
  have hI0 := hI
  have n5 := hI.2.2.2.2.2.1
  refine lv_iload_n S.1 S.2.1 dX0_atom_0 rfl (lv_at hl 1 rfl) ?_
  refine kX_isRelation S (p0 := p0) hl.1 dX0_atom_1 ?_
  refine z_eq (tgt := 21) S dX0_atom_4 (by decide) (fun h1 => ?_) (fun h1 => ?_)
  · have ok : atOk p0 p1 p2 = false := by simp [atOk, h1]
    simp only [atUp, atN, ok, Bool.false_eq_true, false_and, if_false]
    refine lv_iconst (v := (-1)) S.1 S.2.1 dX0_atom_21 (by decide) ?_
    exact xr_int S hr hlk hP hS (by simp [atV, ok]) dX0_atom_22
  · refine lv_iload_n S.1 S.2.1 dX0_atom_7 rfl (lv_at hl 2 rfl) ?_
    refine kX_isVariable S (p0 := p1) hl.1 dX0_atom_8 ?_
    refine z_eq (tgt := 21) S dX0_atom_11 (by decide) (fun h2 => ?_) (fun h2 => ?_)
    · have ok : atOk p0 p1 p2 = false := by simp [atOk, h1, h2]
      simp only [atUp, atN, ok, Bool.false_eq_true, false_and, if_false]
      refine lv_iconst (v := (-1)) S.1 S.2.1 dX0_atom_21 (by decide) ?_
      exact xr_int S hr hlk hP hS (by simp [atV, ok]) dX0_atom_22
    · refine lv_iload_n S.1 S.2.1 dX0_atom_14 rfl (lv_at hl 3 rfl) ?_
      refine kX_isVariable S (p0 := p2) hl.1 dX0_atom_15 ?_
      refine z_ne (tgt := 23) S dX0_atom_18 (by decide) (fun h3 => ?_) (fun h3 => ?_)
      · obtain ⟨r, e1, rfl⟩ := inR_t (by decide) h1
        obtain ⟨x, e2, rfl⟩ := inR_t (by decide) h2
        obtain ⟨y, e3, rfl⟩ := inR_t (by decide) h3
        have ok := atOk_n e1 e2 e3
        refine lv_aload_n S.1 S.2.1 dX0_atom_23 rfl (lv_at hl 0 rfl) ?_
        refine gX_n S hK hP dX0_atom_24 ?_
        refine lv_iconst (v := (nI 5)) S.1 S.2.1 dX0_atom_27 (by decide) ?_
        refine n_lt (tgt := 34) S dX0_atom_28 (by decide) (fun h4 => ?_) (fun h4 => ?_)
        · have h6 : atOk (nI r) (nI x) (nI y) = true ∧ n < 5 := ⟨ok, h4⟩
          simp only [atUp, atN, if_pos h6]
          rw [nI_clamp (n := r) (by omega), nI_clamp (n := x) (by omega), nI_clamp (n := y) (by omega)]
          refine lv_aload_n S.1 S.2.1 dX0_atom_34 rfl (lv_at hl 0 rfl) ?_
          refine gX_rl S hK hP dX0_atom_35 ?_
          refine lv_aload_n S.1 S.2.1 dX0_atom_38 rfl (lv_at hl 0 rfl) ?_
          refine gX_n S hK hP dX0_atom_39 ?_
          refine lv_iload_n S.1 S.2.1 dX0_atom_42 rfl (lv_at hl 1 rfl) ?_
          refine lv_i2b (v := nI r) S.1 S.2.1 dX0_atom_43 (nm_b _ (by omega)) ?_
          refine sX_rl S hK hP hA hS (by omega) (by omega) dX0_atom_44 (fun H locs hP hS => ?_)
          refine lv_aload_n S.1 S.2.1 dX0_atom_45 rfl (lv_at hl 0 rfl) ?_
          refine gX_fi S hK hP dX0_atom_46 ?_
          refine lv_aload_n S.1 S.2.1 dX0_atom_49 rfl (lv_at hl 0 rfl) ?_
          refine gX_n S hK hP dX0_atom_50 ?_
          refine lv_iload_n S.1 S.2.1 dX0_atom_53 rfl (lv_at hl 2 rfl) ?_
          refine lv_i2b (v := nI x) S.1 S.2.1 dX0_atom_54 (nm_b _ (by omega)) ?_
          refine sX_fi S hK hP hA hS (by omega) (by omega) dX0_atom_55 (fun H locs hP hS => ?_)
          refine lv_aload_n S.1 S.2.1 dX0_atom_56 rfl (lv_at hl 0 rfl) ?_
          refine gX_se S hK hP dX0_atom_57 ?_
          refine lv_aload_n S.1 S.2.1 dX0_atom_60 rfl (lv_at hl 0 rfl) ?_
          refine gX_n S hK hP dX0_atom_61 ?_
          refine lv_iload_n S.1 S.2.1 dX0_atom_64 rfl (lv_at hl 3 rfl) ?_
          refine lv_i2b (v := nI y) S.1 S.2.1 dX0_atom_65 (nm_b _ (by omega)) ?_
          refine sX_se S hK hP hA hS (by omega) (by omega) dX0_atom_66 (fun H locs hP hS => ?_)
          refine lv_aload_n S.1 S.2.1 dX0_atom_67 rfl (lv_at hl 0 rfl) ?_
          refine lv_dup S.1 S.2.1 dX0_atom_68 rfl ?_
          refine gX_n S hK hP dX0_atom_69 ?_
          refine lv_iconst (v := (nI 1)) S.1 S.2.1 dX0_atom_72 (by decide) ?_
          refine n_iadd S dX0_atom_73 ?_
          refine sX_n S hK hP hA hS dX0_atom_74 (fun H locs hP hS => ?_)
          refine lv_aload_n S.1 S.2.1 dX0_atom_77 rfl (lv_at hl 0 rfl) ?_
          refine gX_n S hK hP dX0_atom_78 ?_
          exact xr_int S hr hlk hP hS (by simp [atV, ok, h4]) dX0_atom_81
        · have h5 : ¬ n < 5 := by omega
          simp only [atUp, atN, h5, and_false, if_false]
          refine lv_bipush (v := (-2)) S.1 S.2.1 dX0_atom_31 (by decide) ?_
          exact xr_int S hr hlk hP hS (by simp [atV, ok, h5]) dX0_atom_33
      · have ok : atOk p0 p1 p2 = false := by simp [atOk, h1, h2, h3]
        simp only [atUp, atN, ok, Bool.false_eq_true, false_and, if_false]
        refine lv_iconst (v := (-1)) S.1 S.2.1 dX0_atom_21 (by decide) ?_
        exact xr_int S hr hlk hP hS (by simp [atV, ok]) dX0_atom_22
theorem mX_drop (l : Launch) (hP : va_P D vwCl (xw a cS cB on bk rl fi se n th le) H) (hA : xAp a 8)  (hI : XI on bk rl fi se n) : Met l yX0_drop (ws_ yX0_drop cX0_drop 1 (some .int)) (rmK 0) (va_Pc [.ref (a 0)] (fun U => U.heap = H ∧ va_K D vwCl (tX cS cB) U)) (XQ D a cS cB (some (.int (drV n))) on bk rl fi se (n - 1)) 0 0 (xA a 8) := by
  refine anyMet (by decide) (Nat.le_of_ble_eq_true rfl) (fun p e s m below meth c S hr hlk hin hH hK ls hl => ?_)
  have S : CallFix p m c cX0_drop 1 s _ lw_all RX0 := S
  have hl : lv_has ls 1 [(0, .ref (a 0))] := hl
  have hS : va_S (xA a 8) s.heap H [] := by rw [hH]; exact va_S.rf
  have n5 := hI.2.2.2.2.2.1
  refine lv_aload_n S.1 S.2.1 dX0_drop_0 rfl (lv_at hl 0 rfl) ?_
  refine gX_n S hK hP dX0_drop_1 ?_
  refine n_ifne (tgt := 9) S dX0_drop_4 (by decide) (fun h1 => ?_) (fun h1 => ?_)
  · refine lv_aload_n S.1 S.2.1 dX0_drop_9 rfl (lv_at hl 0 rfl) ?_
    refine lv_dup S.1 S.2.1 dX0_drop_10 rfl ?_
    refine gX_n S hK hP dX0_drop_11 ?_
    refine lv_iconst (v := (nI 1)) S.1 S.2.1 dX0_drop_14 (by decide) ?_
    refine n_isub S (by omega) dX0_drop_15 ?_
    refine sX_n S hK hP hA hS dX0_drop_16 (fun H locs hP hS => ?_)
    refine lv_aload_n S.1 S.2.1 dX0_drop_19 rfl (lv_at hl 0 rfl) ?_
    refine gX_n S hK hP dX0_drop_20 ?_
    exact xr_int S hr hlk hP hS (by unfold drV; rw [if_neg (by omega)]) dX0_drop_23
  · subst h1
    refine lv_iconst (v := (-1)) S.1 S.2.1 dX0_drop_7 (by decide) ?_
    exact xr_int S hr hlk hP hS rfl dX0_drop_8
theorem mX_count (l : Launch) (hP : va_P D vwCl (xw a cS cB on bk rl fi se n th le) H) (hA : xAp a 8)  (hI : XI on bk rl fi se n) : Met l yX0_count (ws_ yX0_count cX0_count 4 (some .int)) (rmK 5) (va_Pc [.ref (a 0)] (fun U => U.heap = H ∧ va_K D vwCl (tX cS cB) U)) (XQ D a cS cB (some (.int (nI (cnt (ansB on rl fi se n) 4096)))) on bk rl fi se n) 0 0 (xA a 8) := by
  refine anyMet (by decide) (Nat.le_of_ble_eq_true rfl) (fun p e s m below meth c S hr hlk hin hH hK ls hl => ?_)
  have S : CallFix p m c cX0_count 4 s _ lw_all RX0 := S
  have hl : lv_has ls 4 [(0, .ref (a 0))] := hl
  have hS : va_S (xA a 8) s.heap H [] := by rw [hH]; exact va_S.rf
  have hI0 := hI
  refine lv_iconst (v := (nI 0)) S.1 S.2.1 dX0_count_0 (by decide) ?_
  refine lv_istore_n (lv' := [(1, .int (nI 0)), (0, .ref (a 0))]) S.1 S.2.1 dX0_count_1 rfl hl (by decide) rfl (fun ls hl => ?_)
  refine lv_aload_n S.1 S.2.1 dX0_count_2 rfl (lv_at hl 1 rfl) ?_
  refine lv_iconst (v := (nI 0)) S.1 S.2.1 dX0_count_3 (by decide) ?_
  refine kX_nx S hK hP hA (k := 0) (by decide) hI0 hS (fun q h => h) hl.1 dX0_count_4 (fun H locs th le hP hS => ?_)
  refine lv_istore_n (lv' := [(2, .int (enc (nx (ansB on rl fi se n) 0))), (1, .int (nI 0)), (0, .ref (a 0))]) S.1 S.2.1 dX0_count_7 rfl hl (by decide) rfl (fun ls hl => ?_)
  refine lv_iconst (v := (nI 0)) S.1 S.2.1 dX0_count_8 (by decide) ?_
  refine lv_istore_n (lv' := [(3, .int (nI 0)), (2, .int (enc (nx (ansB on rl fi se n) 0))), (1, .int (nI 0)), (0, .ref (a 0))]) S.1 S.2.1 dX0_count_9 rfl hl (by decide) rfl (fun ls hl => ?_)
  have g0 := nx_spec (P := ansB on rl fi se n) (k := 0) (by omega)
  obtain ⟨g1, g2, g3, g4⟩ := g0
  refine loopW2 (α := Nat) (β := Nat) (fun N k H locs ls => lv_has ls 4 [(3, .int (nI k)), (2, .int (enc N)), (1, .int (nI (cnt (ansB on rl fi se n) N))), (0, .ref (a 0))] ∧ (∃ th le, va_P D vwCl (xw a cS cB on bk rl fi se n th le) H) ∧ va_S (xA a 8) s.heap H locs ∧ N ≤ 4096 ∧ (N < 4096 → ansB on rl fi se n N = true) ∧ k ≤ N) (fun N k => 4096 - N) (fun N k H locs ls hJ ih => ?_) (nx (ansB on rl fi se n) 0) 0 H locs ls ⟨by rw [cnt_nx0]; exact lv_sub hl [0, 1, 2, 3] rfl, ⟨th, le, hP⟩, hS, g2, g3, Nat.zero_le _⟩
  obtain ⟨hl, ⟨th, le, hP⟩, hS, hN, hN2, hkN⟩ := hJ
  refine lv_iload_n S.1 S.2.1 dX0_count_10 rfl (lv_at hl 0 rfl) ?_
  refine lv_sipush (v := (nI 4096)) S.1 S.2.1 dX0_count_11 (by decide) ?_
  refine n_ge (tgt := 38) S dX0_count_14 (by decide) (fun h1 => ?_) (fun h1 => ?_)
  · have e9 : N = 4096 := by omega
    subst e9
    refine lv_iload_n S.1 S.2.1 dX0_count_38 rfl (lv_at hl 2 rfl) ?_
    exact xr_int S hr hlk hP hS rfl dX0_count_39
  · refine lv_iload_n S.1 S.2.1 dX0_count_17 rfl (lv_at hl 1 rfl) ?_
    refine lv_if_lt (tgt := 38) S.1 S.2.1 dX0_count_18 (by decide) (fun h2 => ?_) (fun h2 => ?_)
    · have h2 := enc_neg.mp h2
      have e9 : N = 4096 := by omega
      subst e9
      refine lv_iload_n S.1 S.2.1 dX0_count_38 rfl (lv_at hl 2 rfl) ?_
      exact xr_int S hr hlk hP hS rfl dX0_count_39
    · have h2 : N < 4096 := by
        rcases Nat.lt_or_ge N 4096 with q | q
        · exact q
        · exact absurd (enc_neg.mpr q) h2
      rw [enc_lt h2] at hl
      have hPN := hN2 h2
      refine n_iinc (x := cnt (ansB on rl fi se n) N) (k := 2) (lv' := [(1, .int (nI (cnt (ansB on rl fi se n) N + 1))), (3, .int (nI k)), (2, .int (nI N)), (0, .ref (a 0))]) S dX0_count_21 hl rfl (by decide) rfl (fun ls hl => ?_)
      refine lv_aload_n S.1 S.2.1 dX0_count_24 rfl (lv_at hl 3 rfl) ?_
      refine lv_iload_n S.1 S.2.1 dX0_count_25 rfl (lv_at hl 2 rfl) ?_
      refine lv_iconst (v := (nI 1)) S.1 S.2.1 dX0_count_26 (by decide) ?_
      refine n_iadd S dX0_count_27 ?_
      refine kX_nx S hK hP hA (k := N + 1) (by omega) hI0 hS (fun q h => h) hl.1 dX0_count_28 (fun H locs th le hP hS => ?_)
      refine lv_istore_n (lv' := [(2, .int (enc (nx (ansB on rl fi se n) (N + 1)))), (1, .int (nI (cnt (ansB on rl fi se n) N + 1))), (3, .int (nI k)), (0, .ref (a 0))]) S.1 S.2.1 dX0_count_31 rfl hl (by decide) rfl (fun ls hl => ?_)
      refine n_iinc (x := k) (k := 2) (lv' := [(3, .int (nI (k + 1))), (2, .int (enc (nx (ansB on rl fi se n) (N + 1)))), (1, .int (nI (cnt (ansB on rl fi se n) N + 1))), (0, .ref (a 0))]) S dX0_count_32 hl rfl (by decide) rfl (fun ls hl => ?_)
      refine lv_goto (tgt := 10) S.1 S.2.1 dX0_count_35 (by decide) ?_
      have g0 := nx_spec (P := ansB on rl fi se n) (k := N + 1) (by omega)
      obtain ⟨g1, g2, g3, g4⟩ := g0
      exact ih (nx (ansB on rl fi se n) (N + 1)) (k + 1) H locs ls ⟨by rw [cnt_nx h2 hPN]; exact lv_sub hl [0, 1, 2, 3] rfl, ⟨th, le, hP⟩, hS, g2, g3, by omega⟩ (by omega)
theorem kX_count {A0 : Nat → Prop} (S : CallFix p m c cc nL s args lw_all RX0) (hK : va_K D vwCl (tX cS cB) s) (hP : va_P D vwCl (xw a cS cB on bk rl fi se n th le) H) (hA : xAp a 8)  (hI : XI on bk rl fi se n) (hS : va_S A0 H0 H locs) (hA0 : ∀ q, xA a 8 q → A0 q) (hsz : ls.size = nL) (hdg : decode cc pc = .ok (.invokevirtual 92, 3)) (kk : ∀ (H1 : Heap) (locs1 : List Loc) (th' le' : Nat → Nat), va_P D vwCl (xw a cS cB on bk rl fi se n th' le') H1 → (∀ q : Nat, q < H.size → ¬ xA a 8 q → H1[q]? = H[q]?) → va_S A0 H0 H1 locs1 → W p l e R s m args below meth c H1 locs1 cells slots Q (F0 m (pc + 3) ls (.int (nI (cnt (ansB on rl fi se n) 4096)) :: rest))) (hR : (rmK 5).frames + 1 ≤ R.frames ∧ 8 + (4 + 11) + (rmK 5).locals ≤ R.locals := by decide) (hW : (rest.map fun v => v.category).sum ≤ 8 := by exact Nat.le_of_ble_eq_true rfl) (hf : cells ≤ R.cells ∧ slots ≤ R.slots := by first | exact ⟨Nat.zero_le _, Nat.zero_le _⟩ | decide) : W p l e R s m args below meth c H locs cells slots Q (F0 m pc ls (.ref (a 0) :: rest)) :=
  wr_V (v := some (.int (nI (cnt (ansB on rl fi se n) 4096)))) (PP := fun G => ∃ th le, va_P D vwCl (xw a cS cB on bk rl fi se n th le) G) S hK hK hP (ci := 0) rfl rfl (mX_count l hP hA hI) (cwV 0 S.2.2.2.2 (lw_V q158 q86 q87 q16 q88) rfl rfl rfl (by decide +kernel) hR) rfl hsz rfl hW hdg hf hS hA0 (fun H1 locs1 h9 hk hS1 => by obtain ⟨th', le', hP'⟩ := h9; exact kk H1 locs1 th' le' hP' hk hS1)
theorem mX_answer (l : Launch) (hP : va_P D vwCl (xw a cS cB on bk rl fi se n th le) H) (hA : xAp a 8) (p0 : Int32) (hI : XI on bk rl fi se n) : Met l yX0_answer (ws_ yX0_answer cX0_answer 4 (some .int)) (rmK 5) (va_Pc [.ref (a 0), .int p0] (fun U => U.heap = H ∧ va_K D vwCl (tX cS cB) U)) (XQ D a cS cB (some (.int (akV (ansB on rl fi se n) p0))) on bk rl fi se n) 0 0 (xA a 8) := by
  refine anyMet (by decide) (Nat.le_of_ble_eq_true rfl) (fun p e s m below meth c S hr hlk hin hH hK ls hl => ?_)
  have S : CallFix p m c cX0_answer 4 s _ lw_all RX0 := S
  have hl : lv_has ls 4 [(0, .ref (a 0)), (1, .int p0)] := hl
  have hS : va_S (xA a 8) s.heap H [] := by rw [hH]; exact va_S.rf
  have hI0 := hI
  refine lv_iload_n S.1 S.2.1 dX0_answer_0 rfl (lv_at hl 1 rfl) ?_
  refine lv_if_ge (tgt := 8) S.1 S.2.1 dX0_answer_1 (by decide) (fun h0 => ?_) (fun h0 => ?_)
  · obtain ⟨q, hq, rfl⟩ := nI_of (x := p0) (by intro h9; rw [Int32.le_iff_toInt_le] at h0; rw [Int32.lt_iff_toInt_lt] at h9; omega)
    refine lv_aload_n S.1 S.2.1 dX0_answer_8 rfl (lv_at hl 0 rfl) ?_
    refine lv_iconst (v := (nI 0)) S.1 S.2.1 dX0_answer_9 (by decide) ?_
    refine kX_nx S hK hP hA (k := 0) (by decide) hI0 hS (fun q h => h) hl.1 dX0_answer_10 (fun H locs th le hP hS => ?_)
    refine lv_istore_n (lv' := [(2, .int (enc (nx (ansB on rl fi se n) 0))), (0, .ref (a 0)), (1, .int (nI q))]) S.1 S.2.1 dX0_answer_13 rfl hl (by decide) rfl (fun ls hl => ?_)
    refine lv_iconst (v := (nI 0)) S.1 S.2.1 dX0_answer_14 (by decide) ?_
    refine lv_istore_n (lv' := [(3, .int (nI 0)), (2, .int (enc (nx (ansB on rl fi se n) 0))), (0, .ref (a 0)), (1, .int (nI q))]) S.1 S.2.1 dX0_answer_15 rfl hl (by decide) rfl (fun ls hl => ?_)
    have g0 := nx_spec (P := ansB on rl fi se n) (k := 0) (by omega)
    obtain ⟨g1, g2, g3, g4⟩ := g0
    refine loopW2 (α := Nat) (β := Nat) (fun N i H locs ls => lv_has ls 4 [(3, .int (nI i)), (2, .int (enc N)), (0, .ref (a 0)), (1, .int (nI q))] ∧ (∃ th le, va_P D vwCl (xw a cS cB on bk rl fi se n th le) H) ∧ va_S (xA a 8) s.heap H locs ∧ N ≤ 4096 ∧ (N < 4096 → ansB on rl fi se n N = true ∧ cnt (ansB on rl fi se n) N = i) ∧ (N = 4096 → cnt (ansB on rl fi se n) 4096 ≤ i) ∧ i ≤ q) (fun N i => q - i) (fun N i H locs ls hJ ih => ?_) (nx (ansB on rl fi se n) 0) 0 H locs ls ⟨lv_sub hl [0, 1, 2, 3] rfl, ⟨th, le, hP⟩, hS, g2, fun q => ⟨g3 q, cnt_nx0⟩, fun q => by rw [← q, cnt_nx0]; exact Nat.le_refl _, Nat.zero_le _⟩
    obtain ⟨hl, ⟨th, le, hP⟩, hS, hN, hN2, hN3, hiq⟩ := hJ
    refine lv_iload_n S.1 S.2.1 dX0_answer_16 rfl (lv_at hl 0 rfl) ?_
    refine lv_iload_n S.1 S.2.1 dX0_answer_17 rfl (lv_at hl 3 rfl) ?_
    refine n_ge (tgt := 39) S dX0_answer_18 (by decide) (fun h1 => ?_) (fun h1 => ?_)
    · refine lv_iload_n S.1 S.2.1 dX0_answer_39 rfl (lv_at hl 1 rfl) ?_
      exact xr_int S hr hlk hP hS (ak_fin hN hN2 hN3 (by omega) hiq hq (Or.inr (by omega))).symm dX0_answer_40
    · refine lv_iload_n S.1 S.2.1 dX0_answer_21 rfl (lv_at hl 1 rfl) ?_
      refine lv_if_lt (tgt := 39) S.1 S.2.1 dX0_answer_22 (by decide) (fun h2 => ?_) (fun h2 => ?_)
      · have h2 := enc_neg.mp h2
        refine lv_iload_n S.1 S.2.1 dX0_answer_39 rfl (lv_at hl 1 rfl) ?_
        exact xr_int S hr hlk hP hS (ak_fin hN hN2 hN3 (by omega) hiq hq (Or.inl (by omega))).symm dX0_answer_40
      · have h2 : N < 4096 := by
          rcases Nat.lt_or_ge N 4096 with q | q
          · exact q
          · exact absurd (enc_neg.mpr q) h2
        rw [enc_lt h2] at hl
        have hPN := hN2 h2
        refine lv_aload_n S.1 S.2.1 dX0_answer_25 rfl (lv_at hl 2 rfl) ?_
        refine lv_iload_n S.1 S.2.1 dX0_answer_26 rfl (lv_at hl 1 rfl) ?_
        refine lv_iconst (v := (nI 1)) S.1 S.2.1 dX0_answer_27 (by decide) ?_
        refine n_iadd S dX0_answer_28 ?_
        refine kX_nx S hK hP hA (k := N + 1) (by omega) hI0 hS (fun q h => h) hl.1 dX0_answer_29 (fun H locs th le hP hS => ?_)
        refine lv_istore_n (lv' := [(2, .int (enc (nx (ansB on rl fi se n) (N + 1)))), (3, .int (nI i)), (0, .ref (a 0)), (1, .int (nI q))]) S.1 S.2.1 dX0_answer_32 rfl hl (by decide) rfl (fun ls hl => ?_)
        refine n_iinc (x := i) (k := 1) (lv' := [(3, .int (nI (i + 1))), (2, .int (enc (nx (ansB on rl fi se n) (N + 1)))), (0, .ref (a 0)), (1, .int (nI q))]) S dX0_answer_33 hl rfl (by decide) rfl (fun ls hl => ?_)
        refine lv_goto (tgt := 16) S.1 S.2.1 dX0_answer_36 (by decide) ?_
        have g0 := nx_spec (P := ansB on rl fi se n) (k := N + 1) (by omega)
        obtain ⟨g1, g2, g3, g4⟩ := g0
        have c1 := cnt_nx h2 hPN.1
        exact ih (nx (ansB on rl fi se n) (N + 1)) (i + 1) H locs ls ⟨lv_sub hl [0, 1, 2, 3] rfl, ⟨th, le, hP⟩, hS, g2, fun q => ⟨g3 q, by rw [c1, hPN.2]⟩, fun q => by rw [← q, c1, hPN.2]; exact Nat.le_refl _, by omega⟩ (by omega)
  · have h0 : p0 < 0 := by
      rw [Int32.le_iff_toInt_le] at h0
      rw [Int32.lt_iff_toInt_lt]
      omega
    refine lv_iconst (v := (-1)) S.1 S.2.1 dX0_answer_4 (by decide) ?_
    refine lv_goto (tgt := 13) S.1 S.2.1 dX0_answer_5 (by decide) ?_
    refine lv_istore_n (lv' := [(2, .int (-1)), (0, .ref (a 0)), (1, .int p0)]) S.1 S.2.1 dX0_answer_13 rfl hl (by decide) rfl (fun ls hl => ?_)
    refine lv_iconst (v := (nI 0)) S.1 S.2.1 dX0_answer_14 (by decide) ?_
    refine lv_istore_n (lv' := [(3, .int (nI 0)), (2, .int (-1)), (0, .ref (a 0)), (1, .int p0)]) S.1 S.2.1 dX0_answer_15 rfl hl (by decide) rfl (fun ls hl => ?_)
    refine lv_iload_n S.1 S.2.1 dX0_answer_16 rfl (lv_at hl 0 rfl) ?_
    refine lv_iload_n S.1 S.2.1 dX0_answer_17 rfl (lv_at hl 3 rfl) ?_
    refine lv_icmp_ge (tgt := 39) S.1 S.2.1 dX0_answer_18 (by decide) (fun h1 => ?_) (fun h1 => ?_)
    · refine lv_iload_n S.1 S.2.1 dX0_answer_39 rfl (lv_at hl 1 rfl) ?_
      exact xr_int S hr hlk hP hS (ak_neg h0).symm dX0_answer_40
    · exact absurd (by rw [Int32.lt_iff_toInt_lt] at h0; rw [Int32.le_iff_toInt_le, nI_toInt (by decide)]; have h8 : (0 : Int32).toInt = 0 := rfl; omega) h1
theorem mX_seek (l : Launch) (hP : va_P D vwCl (xw a cS cB on bk rl fi se n th le) H) (hA : xAp a 8) (p0 : Int32) (hI : XI on bk rl fi se n) : Met l yX0_seek (ws_ yX0_seek cX0_seek 2 (some .int)) (rmK 5) (va_Pc [.ref (a 0), .int p0] (fun U => U.heap = H ∧ va_K D vwCl (tX cS cB) U)) (XQ D a cS cB (some (.int (skV (ansB on rl fi se n) p0))) on bk rl fi se n) 0 0 (xA a 8) := by
  refine anyMet (by decide) (Nat.le_of_ble_eq_true rfl) (fun p e s m below meth c S hr hlk hin hH hK ls hl => ?_)
  have S : CallFix p m c cX0_seek 2 s _ lw_all RX0 := S
  have hl : lv_has ls 2 [(0, .ref (a 0)), (1, .int p0)] := hl
  have hS : va_S (xA a 8) s.heap H [] := by rw [hH]; exact va_S.rf
  refine lv_aload_n S.1 S.2.1 dX0_seek_0 rfl (lv_at hl 0 rfl) ?_
  refine lv_iload_n S.1 S.2.1 dX0_seek_1 rfl (lv_at hl 1 rfl) ?_
  refine kX_nextFrom S hK hP hA (p0 := p0) hI hS (fun q h => h) hl.1 dX0_seek_2 (fun H locs th le hP _ hS => ?_)
  exact xr_int S hr hlk hP hS rfl dX0_seek_5
theorem mX_values (l : Launch) (hP : va_P D vwCl (xw a cS cB on bk rl fi se n th le) H) (hA : xAp a 8) (p0 : Int32) (hI : XI on bk rl fi se n) : Met l yX0_values (ws_ yX0_values cX0_values 5 (some .int)) (rmK 5) (va_Pc [.ref (a 0), .int p0] (fun U => U.heap = H ∧ va_K D vwCl (tX cS cB) U)) (XQ D a cS cB (some (.int (vaV (ansB on rl fi se n) p0))) on bk rl fi se n) 0 0 (xA a 8) := by
  refine anyMet (by decide) (Nat.le_of_ble_eq_true rfl) (fun p e s m below meth c S hr hlk hin hH hK ls hl => ?_)
  have S : CallFix p m c cX0_values 5 s _ lw_all RX0 := S
  have hl : lv_has ls 5 [(0, .ref (a 0)), (1, .int p0)] := hl
  have hS : va_S (xA a 8) s.heap H [] := by rw [hH]; exact va_S.rf
  have hI0 := hI
  refine lv_iconst (v := (nI 0)) S.1 S.2.1 dX0_values_0 (by decide) ?_
  refine lv_istore_n (lv' := [(2, .int (nI 0)), (0, .ref (a 0)), (1, .int p0)]) S.1 S.2.1 dX0_values_1 rfl hl (by decide) rfl (fun ls hl => ?_)
  refine lv_iload_n S.1 S.2.1 dX0_values_2 rfl (lv_at hl 2 rfl) ?_
  refine kX_isVariable S (p0 := p0) hl.1 dX0_values_3 ?_
  refine z_eq (tgt := 17) S dX0_values_6 (by decide) (fun h0 => ?_) (fun h0 => ?_)
  · refine lv_iconst (v := (-1)) S.1 S.2.1 dX0_values_17 (by decide) ?_
    refine lv_istore_n (lv' := [(3, .int (-1)), (2, .int (nI 0)), (0, .ref (a 0)), (1, .int p0)]) S.1 S.2.1 dX0_values_18 rfl hl (by decide) rfl (fun ls hl => ?_)
    refine lv_iconst (v := (nI 0)) S.1 S.2.1 dX0_values_19 (by decide) ?_
    refine lv_istore (lv' := [(4, .int (nI 0)), (3, .int (-1)), (2, .int (nI 0)), (0, .ref (a 0)), (1, .int p0)]) S.1 S.2.1 dX0_values_20 hl (by decide) rfl (fun ls hl => ?_)
    refine lv_iload S.1 S.2.1 dX0_values_22 (lv_at hl 0 rfl) ?_
    refine lv_sipush (v := (nI 4096)) S.1 S.2.1 dX0_values_24 (by decide) ?_
    refine n_ge (tgt := 58) S dX0_values_27 (by decide) (fun h1 => ?_) (fun h1 => ?_)
    · exact absurd h1 (by decide)
    · refine lv_iload_n S.1 S.2.1 dX0_values_30 rfl (lv_at hl 1 rfl) ?_
      refine lv_if_lt (tgt := 58) S.1 S.2.1 dX0_values_31 (by decide) (fun h2 => ?_) (fun h2 => ?_)
      · refine lv_iload_n S.1 S.2.1 dX0_values_58 rfl (lv_at hl 2 rfl) ?_
        exact xr_int S hr hlk hP hS (by unfold vaV; rw [h0]; rfl) dX0_values_59
      · exact absurd (by decide) h2
  · obtain ⟨v, hv, rfl⟩ := inR_t (by decide) h0
    refine lv_aload_n S.1 S.2.1 dX0_values_9 rfl (lv_at hl 1 rfl) ?_
    refine lv_iconst (v := (nI 0)) S.1 S.2.1 dX0_values_10 (by decide) ?_
    refine kX_nx S hK hP hA (k := 0) (by decide) hI0 hS (fun q h => h) hl.1 dX0_values_11 (fun H locs th le hP hS => ?_)
    refine lv_goto (tgt := 18) S.1 S.2.1 dX0_values_14 (by decide) ?_
    refine lv_istore_n (lv' := [(3, .int (enc (nx (ansB on rl fi se n) 0))), (2, .int (nI 0)), (0, .ref (a 0)), (1, .int (nI v))]) S.1 S.2.1 dX0_values_18 rfl hl (by decide) rfl (fun ls hl => ?_)
    refine lv_iconst (v := (nI 0)) S.1 S.2.1 dX0_values_19 (by decide) ?_
    refine lv_istore (lv' := [(4, .int (nI 0)), (3, .int (enc (nx (ansB on rl fi se n) 0))), (2, .int (nI 0)), (0, .ref (a 0)), (1, .int (nI v))]) S.1 S.2.1 dX0_values_20 hl (by decide) rfl (fun ls hl => ?_)
    have g0 := nx_spec (P := ansB on rl fi se n) (k := 0) (by omega)
    obtain ⟨g1, g2, g3, g4⟩ := g0
    have z0 : vset (ansB on rl fi se n) v (nx (ansB on rl fi se n) 0) = 0 := gap (P := ansB on rl fi se n) (F := vset (ansB on rl fi se n) v) (fun k hk => vset_f hk) _ g1 g4
    refine loopW2 (α := Nat) (β := Nat) (fun N k H locs ls => lv_has ls 5 [(4, .int (nI k)), (3, .int (enc N)), (2, .int (nI (vset (ansB on rl fi se n) v N))), (0, .ref (a 0)), (1, .int (nI v))] ∧ (∃ th le, va_P D vwCl (xw a cS cB on bk rl fi se n th le) H) ∧ va_S (xA a 8) s.heap H locs ∧ N ≤ 4096 ∧ (N < 4096 → ansB on rl fi se n N = true) ∧ k ≤ N) (fun N k => 4096 - N) (fun N k H locs ls hJ ih => ?_) (nx (ansB on rl fi se n) 0) 0 H locs ls ⟨by rw [z0]; exact lv_sub hl [0, 1, 2, 3, 4] rfl, ⟨th, le, hP⟩, hS, g2, g3, Nat.zero_le _⟩
    obtain ⟨hl, ⟨th, le, hP⟩, hS, hN, hN2, hkN⟩ := hJ
    refine lv_iload S.1 S.2.1 dX0_values_22 (lv_at hl 0 rfl) ?_
    refine lv_sipush (v := (nI 4096)) S.1 S.2.1 dX0_values_24 (by decide) ?_
    refine n_ge (tgt := 58) S dX0_values_27 (by decide) (fun h1 => ?_) (fun h1 => ?_)
    · have e9 : N = 4096 := by omega
      subst e9
      refine lv_iload_n S.1 S.2.1 dX0_values_58 rfl (lv_at hl 2 rfl) ?_
      exact xr_int S hr hlk hP hS (by unfold vaV; rw [h0, nI_clamp (by omega)]; rfl) dX0_values_59
    · refine lv_iload_n S.1 S.2.1 dX0_values_30 rfl (lv_at hl 1 rfl) ?_
      refine lv_if_lt (tgt := 58) S.1 S.2.1 dX0_values_31 (by decide) (fun h2 => ?_) (fun h2 => ?_)
      · have h2 := enc_neg.mp h2
        have e9 : N = 4096 := by omega
        subst e9
        refine lv_iload_n S.1 S.2.1 dX0_values_58 rfl (lv_at hl 2 rfl) ?_
        exact xr_int S hr hlk hP hS (by unfold vaV; rw [h0, nI_clamp (by omega)]; rfl) dX0_values_59
      · have h2 : N < 4096 := by
          rcases Nat.lt_or_ge N 4096 with q | q
          · exact q
          · exact absurd (enc_neg.mpr q) h2
        rw [enc_lt h2] at hl
        have hPN := hN2 h2
        have b1 := dg_lt N v
        refine lv_iload_n S.1 S.2.1 dX0_values_34 rfl (lv_at hl 2 rfl) ?_
        refine lv_iconst (v := (nI 1)) S.1 S.2.1 dX0_values_35 (by decide) ?_
        refine lv_iload_n S.1 S.2.1 dX0_values_36 rfl (lv_at hl 1 rfl) ?_
        refine lv_iload_n S.1 S.2.1 dX0_values_37 rfl (lv_at hl 4 rfl) ?_
        refine kX_digit S (k := N) (d := v) (by omega) hv hl.1 dX0_values_38 ?_
        refine n_ishl1 S (by omega) dX0_values_41 ?_
        refine n_ior S dX0_values_42 ?_
        refine lv_istore_n (lv' := [(2, .int (nI ((vset (ansB on rl fi se n) v N) ||| (2 ^ (dg N v))))), (4, .int (nI k)), (3, .int (nI N)), (0, .ref (a 0)), (1, .int (nI v))]) S.1 S.2.1 dX0_values_43 rfl hl (by decide) rfl (fun ls hl => ?_)
        refine lv_aload_n S.1 S.2.1 dX0_values_44 rfl (lv_at hl 3 rfl) ?_
        refine lv_iload_n S.1 S.2.1 dX0_values_45 rfl (lv_at hl 2 rfl) ?_
        refine lv_iconst (v := (nI 1)) S.1 S.2.1 dX0_values_46 (by decide) ?_
        refine n_iadd S dX0_values_47 ?_
        refine kX_nx S hK hP hA (k := N + 1) (by omega) hI0 hS (fun q h => h) hl.1 dX0_values_48 (fun H locs th le hP hS => ?_)
        refine lv_istore_n (lv' := [(3, .int (enc (nx (ansB on rl fi se n) (N + 1)))), (2, .int (nI ((vset (ansB on rl fi se n) v N) ||| (2 ^ (dg N v))))), (4, .int (nI k)), (0, .ref (a 0)), (1, .int (nI v))]) S.1 S.2.1 dX0_values_51 rfl hl (by decide) rfl (fun ls hl => ?_)
        refine n_iinc (x := k) (k := 2) (lv' := [(4, .int (nI (k + 1))), (3, .int (enc (nx (ansB on rl fi se n) (N + 1)))), (2, .int (nI ((vset (ansB on rl fi se n) v N) ||| (2 ^ (dg N v))))), (0, .ref (a 0)), (1, .int (nI v))]) S dX0_values_52 hl rfl (by decide) rfl (fun ls hl => ?_)
        refine lv_goto (tgt := 22) S.1 S.2.1 dX0_values_55 (by decide) ?_
        have g0 := nx_spec (P := ansB on rl fi se n) (k := N + 1) (by omega)
        obtain ⟨g1, g2, g3, g4⟩ := g0
        have z1 : vset (ansB on rl fi se n) v (nx (ansB on rl fi se n) (N + 1)) = vset (ansB on rl fi se n) v N ||| 2 ^ dg N v := by
          rw [gap (P := ansB on rl fi se n) (F := vset (ansB on rl fi se n) v) (fun k hk => vset_f hk) _ g1 g4, vset_t hPN]
        exact ih (nx (ansB on rl fi se n) (N + 1)) (k + 1) H locs ls ⟨by rw [z1]; exact lv_sub hl [0, 1, 2, 3, 4] rfl, ⟨th, le, hP⟩, hS, g2, g3, by omega⟩ (by omega)
theorem mX_countWith (l : Launch) (hP : va_P D vwCl (xw a cS cB on bk rl fi se n th le) H) (hA : xAp a 8) (p0 : Int32) (p1 : Int32) (hI : XI on bk rl fi se n) : Met l yX0_countWith (ws_ yX0_countWith cX0_countWith 6 (some .int)) (rmK 5) (va_Pc [.ref (a 0), .int p0, .int p1] (fun U => U.heap = H ∧ va_K D vwCl (tX cS cB) U)) (XQ D a cS cB (some (.int (cwV_ (ansB on rl fi se n) p0 p1))) on bk rl fi se n) 0 0 (xA a 8) := by
  refine anyMet (by decide) (Nat.le_of_ble_eq_true rfl) (fun p e s m below meth c S hr hlk hin hH hK ls hl => ?_)
  have S : CallFix p m c cX0_countWith 6 s _ lw_all RX0 := S
  have hl : lv_has ls 6 [(0, .ref (a 0)), (1, .int p0), (2, .int p1)] := hl
  have hS : va_S (xA a 8) s.heap H [] := by rw [hH]; exact va_S.rf
  have hI0 := hI
  refine lv_iconst (v := (nI 0)) S.1 S.2.1 dX0_countWith_0 (by decide) ?_
  refine lv_istore_n (lv' := [(3, .int (nI 0)), (0, .ref (a 0)), (1, .int p0), (2, .int p1)]) S.1 S.2.1 dX0_countWith_1 rfl hl (by decide) rfl (fun ls hl => ?_)
  refine lv_iload_n S.1 S.2.1 dX0_countWith_2 rfl (lv_at hl 2 rfl) ?_
  refine kX_isVariable S (p0 := p0) hl.1 dX0_countWith_3 ?_
  refine z_eq (tgt := 17) S dX0_countWith_6 (by decide) (fun h0 => ?_) (fun h0 => ?_)
  · refine lv_iconst (v := (-1)) S.1 S.2.1 dX0_countWith_17 (by decide) ?_
    refine lv_istore (lv' := [(4, .int (-1)), (3, .int (nI 0)), (0, .ref (a 0)), (1, .int p0), (2, .int p1)]) S.1 S.2.1 dX0_countWith_18 hl (by decide) rfl (fun ls hl => ?_)
    refine lv_iconst (v := (nI 0)) S.1 S.2.1 dX0_countWith_20 (by decide) ?_
    refine lv_istore (lv' := [(5, .int (nI 0)), (4, .int (-1)), (3, .int (nI 0)), (0, .ref (a 0)), (1, .int p0), (2, .int p1)]) S.1 S.2.1 dX0_countWith_21 hl (by decide) rfl (fun ls hl => ?_)
    refine lv_iload S.1 S.2.1 dX0_countWith_23 (lv_at hl 0 rfl) ?_
    refine lv_sipush (v := (nI 4096)) S.1 S.2.1 dX0_countWith_25 (by decide) ?_
    refine n_ge (tgt := 70) S dX0_countWith_28 (by decide) (fun h1 => ?_) (fun h1 => ?_)
    · exact absurd h1 (by decide)
    · refine lv_iload S.1 S.2.1 dX0_countWith_31 (lv_at hl 1 rfl) ?_
      refine lv_if_lt (tgt := 70) S.1 S.2.1 dX0_countWith_33 (by decide) (fun h2 => ?_) (fun h2 => ?_)
      · refine lv_iload_n S.1 S.2.1 dX0_countWith_70 rfl (lv_at hl 2 rfl) ?_
        exact xr_int S hr hlk hP hS (by unfold cwV_; rw [h0]; rfl) dX0_countWith_71
      · exact absurd (by decide) h2
  · obtain ⟨v, hv, rfl⟩ := inR_t (by decide) h0
    refine lv_aload_n S.1 S.2.1 dX0_countWith_9 rfl (lv_at hl 1 rfl) ?_
    refine lv_iconst (v := (nI 0)) S.1 S.2.1 dX0_countWith_10 (by decide) ?_
    refine kX_nx S hK hP hA (k := 0) (by decide) hI0 hS (fun q h => h) hl.1 dX0_countWith_11 (fun H locs th le hP hS => ?_)
    refine lv_goto (tgt := 18) S.1 S.2.1 dX0_countWith_14 (by decide) ?_
    refine lv_istore (lv' := [(4, .int (enc (nx (ansB on rl fi se n) 0))), (3, .int (nI 0)), (0, .ref (a 0)), (1, .int (nI v)), (2, .int p1)]) S.1 S.2.1 dX0_countWith_18 hl (by decide) rfl (fun ls hl => ?_)
    refine lv_iconst (v := (nI 0)) S.1 S.2.1 dX0_countWith_20 (by decide) ?_
    refine lv_istore (lv' := [(5, .int (nI 0)), (4, .int (enc (nx (ansB on rl fi se n) 0))), (3, .int (nI 0)), (0, .ref (a 0)), (1, .int (nI v)), (2, .int p1)]) S.1 S.2.1 dX0_countWith_21 hl (by decide) rfl (fun ls hl => ?_)
    have g0 := nx_spec (P := ansB on rl fi se n) (k := 0) (by omega)
    obtain ⟨g1, g2, g3, g4⟩ := g0
    have hcf : ∀ k, ansB on rl fi se n k = false → cnt (cwB (ansB on rl fi se n) v p1) (k + 1) = cnt (cwB (ansB on rl fi se n) v p1) k := fun k hk => cnt_f (by simp [cwB, hk])
    have z0 : cnt (cwB (ansB on rl fi se n) v p1) (nx (ansB on rl fi se n) 0) = 0 := gap (P := ansB on rl fi se n) (F := cnt (cwB (ansB on rl fi se n) v p1)) hcf _ g1 g4
    refine loopW2 (α := Nat) (β := Nat) (fun N k H locs ls => lv_has ls 6 [(5, .int (nI k)), (4, .int (enc N)), (3, .int (nI (cnt (cwB (ansB on rl fi se n) v p1) N))), (0, .ref (a 0)), (1, .int (nI v)), (2, .int p1)] ∧ (∃ th le, va_P D vwCl (xw a cS cB on bk rl fi se n th le) H) ∧ va_S (xA a 8) s.heap H locs ∧ N ≤ 4096 ∧ (N < 4096 → ansB on rl fi se n N = true) ∧ k ≤ N) (fun N k => 4096 - N) (fun N k H locs ls hJ ih => ?_) (nx (ansB on rl fi se n) 0) 0 H locs ls ⟨by rw [z0]; exact lv_sub hl [0, 1, 2, 3, 4, 5] rfl, ⟨th, le, hP⟩, hS, g2, g3, Nat.zero_le _⟩
    obtain ⟨hl, ⟨th, le, hP⟩, hS, hN, hN2, hkN⟩ := hJ
    refine lv_iload S.1 S.2.1 dX0_countWith_23 (lv_at hl 0 rfl) ?_
    refine lv_sipush (v := (nI 4096)) S.1 S.2.1 dX0_countWith_25 (by decide) ?_
    refine n_ge (tgt := 70) S dX0_countWith_28 (by decide) (fun h1 => ?_) (fun h1 => ?_)
    · have e9 : N = 4096 := by omega
      subst e9
      refine lv_iload_n S.1 S.2.1 dX0_countWith_70 rfl (lv_at hl 2 rfl) ?_
      exact xr_int S hr hlk hP hS (by unfold cwV_; rw [h0, nI_clamp (by omega)]; rfl) dX0_countWith_71
    · refine lv_iload S.1 S.2.1 dX0_countWith_31 (lv_at hl 1 rfl) ?_
      refine lv_if_lt (tgt := 70) S.1 S.2.1 dX0_countWith_33 (by decide) (fun h2 => ?_) (fun h2 => ?_)
      · have h2 := enc_neg.mp h2
        have e9 : N = 4096 := by omega
        subst e9
        refine lv_iload_n S.1 S.2.1 dX0_countWith_70 rfl (lv_at hl 2 rfl) ?_
        exact xr_int S hr hlk hP hS (by unfold cwV_; rw [h0, nI_clamp (by omega)]; rfl) dX0_countWith_71
      · have h2 : N < 4096 := by
          rcases Nat.lt_or_ge N 4096 with q | q
          · exact q
          · exact absurd (enc_neg.mpr q) h2
        rw [enc_lt h2] at hl
        have hPN := hN2 h2
        refine lv_iload_n S.1 S.2.1 dX0_countWith_36 rfl (lv_at hl 2 rfl) ?_
        refine lv_iload S.1 S.2.1 dX0_countWith_37 (lv_at hl 1 rfl) ?_
        refine lv_iload_n S.1 S.2.1 dX0_countWith_39 rfl (lv_at hl 4 rfl) ?_
        refine kX_digit S (k := N) (d := v) (by omega) hv hl.1 dX0_countWith_40 ?_
        refine lv_iload_n S.1 S.2.1 dX0_countWith_43 rfl (lv_at hl 5 rfl) ?_
        refine lv_icmp_ne (tgt := 51) S.1 S.2.1 dX0_countWith_44 (by decide) (fun h3 => ?_) (fun h3 => ?_)
        · refine lv_iconst (v := (nI 0)) S.1 S.2.1 dX0_countWith_51 (by decide) ?_
          refine n_iadd S dX0_countWith_52 ?_
          refine lv_istore_n (lv' := [(3, .int (nI ((cnt (cwB (ansB on rl fi se n) v p1) N) + 0))), (5, .int (nI k)), (4, .int (nI N)), (0, .ref (a 0)), (1, .int (nI v)), (2, .int p1)]) S.1 S.2.1 dX0_countWith_53 rfl hl (by decide) rfl (fun ls hl => ?_)
          refine lv_aload_n S.1 S.2.1 dX0_countWith_54 rfl (lv_at hl 3 rfl) ?_
          refine lv_iload S.1 S.2.1 dX0_countWith_55 (lv_at hl 2 rfl) ?_
          refine lv_iconst (v := (nI 1)) S.1 S.2.1 dX0_countWith_57 (by decide) ?_
          refine n_iadd S dX0_countWith_58 ?_
          refine kX_nx S hK hP hA (k := N + 1) (by omega) hI0 hS (fun q h => h) hl.1 dX0_countWith_59 (fun H locs th le hP hS => ?_)
          refine lv_istore (lv' := [(4, .int (enc (nx (ansB on rl fi se n) (N + 1)))), (3, .int (nI ((cnt (cwB (ansB on rl fi se n) v p1) N) + 0))), (5, .int (nI k)), (0, .ref (a 0)), (1, .int (nI v)), (2, .int p1)]) S.1 S.2.1 dX0_countWith_62 hl (by decide) rfl (fun ls hl => ?_)
          refine n_iinc (x := k) (k := 2) (lv' := [(5, .int (nI (k + 1))), (4, .int (enc (nx (ansB on rl fi se n) (N + 1)))), (3, .int (nI ((cnt (cwB (ansB on rl fi se n) v p1) N) + 0))), (0, .ref (a 0)), (1, .int (nI v)), (2, .int p1)]) S dX0_countWith_64 hl rfl (by decide) rfl (fun ls hl => ?_)
          refine lv_goto (tgt := 23) S.1 S.2.1 dX0_countWith_67 (by decide) ?_
          have g0 := nx_spec (P := ansB on rl fi se n) (k := N + 1) (by omega)
          obtain ⟨g1, g2, g3, g4⟩ := g0
          have z1 : cnt (cwB (ansB on rl fi se n) v p1) (nx (ansB on rl fi se n) (N + 1)) = cnt (cwB (ansB on rl fi se n) v p1) N + 0 := by
            rw [gap (P := ansB on rl fi se n) (F := cnt (cwB (ansB on rl fi se n) v p1)) hcf _ g1 g4, cnt_f (by simp [cwB, h3])]; rfl
          exact ih (nx (ansB on rl fi se n) (N + 1)) (k + 1) H locs ls ⟨by rw [z1]; exact lv_sub hl [0, 1, 2, 3, 4, 5] rfl, ⟨th, le, hP⟩, hS, g2, g3, by omega⟩ (by omega)
        · refine lv_iconst (v := (nI 1)) S.1 S.2.1 dX0_countWith_47 (by decide) ?_
          refine lv_goto (tgt := 52) S.1 S.2.1 dX0_countWith_48 (by decide) ?_
          refine n_iadd S dX0_countWith_52 ?_
          refine lv_istore_n (lv' := [(3, .int (nI ((cnt (cwB (ansB on rl fi se n) v p1) N) + 1))), (5, .int (nI k)), (4, .int (nI N)), (0, .ref (a 0)), (1, .int (nI v)), (2, .int p1)]) S.1 S.2.1 dX0_countWith_53 rfl hl (by decide) rfl (fun ls hl => ?_)
          refine lv_aload_n S.1 S.2.1 dX0_countWith_54 rfl (lv_at hl 3 rfl) ?_
          refine lv_iload S.1 S.2.1 dX0_countWith_55 (lv_at hl 2 rfl) ?_
          refine lv_iconst (v := (nI 1)) S.1 S.2.1 dX0_countWith_57 (by decide) ?_
          refine n_iadd S dX0_countWith_58 ?_
          refine kX_nx S hK hP hA (k := N + 1) (by omega) hI0 hS (fun q h => h) hl.1 dX0_countWith_59 (fun H locs th le hP hS => ?_)
          refine lv_istore (lv' := [(4, .int (enc (nx (ansB on rl fi se n) (N + 1)))), (3, .int (nI ((cnt (cwB (ansB on rl fi se n) v p1) N) + 1))), (5, .int (nI k)), (0, .ref (a 0)), (1, .int (nI v)), (2, .int p1)]) S.1 S.2.1 dX0_countWith_62 hl (by decide) rfl (fun ls hl => ?_)
          refine n_iinc (x := k) (k := 2) (lv' := [(5, .int (nI (k + 1))), (4, .int (enc (nx (ansB on rl fi se n) (N + 1)))), (3, .int (nI ((cnt (cwB (ansB on rl fi se n) v p1) N) + 1))), (0, .ref (a 0)), (1, .int (nI v)), (2, .int p1)]) S dX0_countWith_64 hl rfl (by decide) rfl (fun ls hl => ?_)
          refine lv_goto (tgt := 23) S.1 S.2.1 dX0_countWith_67 (by decide) ?_
          have g0 := nx_spec (P := ansB on rl fi se n) (k := N + 1) (by omega)
          obtain ⟨g1, g2, g3, g4⟩ := g0
          have z1 : cnt (cwB (ansB on rl fi se n) v p1) (nx (ansB on rl fi se n) (N + 1)) = cnt (cwB (ansB on rl fi se n) v p1) N + 1 := by
            rw [gap (P := ansB on rl fi se n) (F := cnt (cwB (ansB on rl fi se n) v p1)) hcf _ g1 g4, cnt_t (by simp [cwB, h3, hPN])]
          exact ih (nx (ansB on rl fi se n) (N + 1)) (k + 1) H locs ls ⟨by rw [z1]; exact lv_sub hl [0, 1, 2, 3, 4, 5] rfl, ⟨th, le, hP⟩, hS, g2, g3, by omega⟩ (by omega)
theorem mX_holds (l : Launch) (hP : va_P D vwCl (xw a cS cB on bk rl fi se n th le) H) (hA : xAp a 8) (p0 : Int32) (hI : XI on bk rl fi se n) : Met l yX0_holds (ws_ yX0_holds cX0_holds 2 (some .boolean)) (rmK 5) (va_Pc [.ref (a 0), .int p0] (fun U => U.heap = H ∧ va_K D vwCl (tX cS cB) U)) (XQ D a cS cB (some (.int (bI (hoV (ansB on rl fi se n) p0)))) on bk rl fi se n) 0 0 (xA a 8) := by
  refine anyMet (by decide) (Nat.le_of_ble_eq_true rfl) (fun p e s m below meth c S hr hlk hin hH hK ls hl => ?_)
  have S : CallFix p m c cX0_holds 2 s _ lw_all RX0 := S
  have hl : lv_has ls 2 [(0, .ref (a 0)), (1, .int p0)] := hl
  have hS : va_S (xA a 8) s.heap H [] := by rw [hH]; exact va_S.rf
  have hI0 := hI
  refine lv_iload_n S.1 S.2.1 dX0_holds_0 rfl (lv_at hl 1 rfl) ?_
  refine lv_if_lt (tgt := 17) S.1 S.2.1 dX0_holds_1 (by decide) (fun h0 => ?_) (fun h0 => ?_)
  · refine lv_iconst (v := (bI false)) S.1 S.2.1 dX0_holds_17 (by decide) ?_
    exact xr_bool S hr hlk hP hS (by unfold hoV; rw [inR_neg h0]; rfl) dX0_holds_18
  · obtain ⟨q, hq, rfl⟩ := nI_of h0
    refine lv_aload_n S.1 S.2.1 dX0_holds_4 rfl (lv_at hl 0 rfl) ?_
    refine lv_iload_n S.1 S.2.1 dX0_holds_5 rfl (lv_at hl 1 rfl) ?_
    refine kX_nx S hK hP hA (k := q) hq hI0 hS (fun q h => h) hl.1 dX0_holds_6 (fun H locs th le hP hS => ?_)
    refine lv_iload_n S.1 S.2.1 dX0_holds_9 rfl (lv_at hl 1 rfl) ?_
    refine lv_icmp_ne (tgt := 17) S.1 S.2.1 dX0_holds_10 (by decide) (fun h1 => ?_) (fun h1 => ?_)
    · refine lv_iconst (v := (bI false)) S.1 S.2.1 dX0_holds_17 (by decide) ?_
      exact xr_bool S hr hlk hP hS (by rw [ho_n hq]; simp [h1]) dX0_holds_18
    · refine lv_iconst (v := (bI true)) S.1 S.2.1 dX0_holds_13 (by decide) ?_
      refine lv_goto (tgt := 18) S.1 S.2.1 dX0_holds_14 (by decide) ?_
      exact xr_bool S hr hlk hP hS (by rw [ho_n hq]; simp [h1]) dX0_holds_18
theorem mX_pairs (l : Launch) (hP : va_P D vwCl (xw a cS cB on bk rl fi se n th le) H) (hA : xAp a 8) (p0 : Int32) (p1 : Int32) (hI : XI on bk rl fi se n) : Met l yX0_pairs (ws_ yX0_pairs cX0_pairs 8 (some .int)) (rmK 5) (va_Pc [.ref (a 0), .int p0, .int p1] (fun U => U.heap = H ∧ va_K D vwCl (tX cS cB) U)) (XQ D a cS cB (some (.int (nI (paV (ansB on rl fi se n) p0 p1)))) on bk rl fi se n) 0 0 (xA a 8) := by
  refine anyMet (by decide) (Nat.le_of_ble_eq_true rfl) (fun p e s m below meth c S hr hlk hin hH hK ls hl => ?_)
  have S : CallFix p m c cX0_pairs 8 s _ lw_all RX0 := S
  have hl : lv_has ls 8 [(0, .ref (a 0)), (1, .int p0), (2, .int p1)] := hl
  have hS : va_S (xA a 8) s.heap H [] := by rw [hH]; exact va_S.rf
  have hI0 := hI
  refine lv_lconst (v := lN 0) S.1 S.2.1 dX0_pairs_0 (by decide) ?_
  refine lv_lstore_n (lv' := [(3, .long (lN 0)), (0, .ref (a 0)), (1, .int p0), (2, .int p1)]) S.1 S.2.1 dX0_pairs_1 rfl hl (by decide) rfl (fun ls hl => ?_)
  refine lv_iload_n S.1 S.2.1 dX0_pairs_2 rfl (lv_at hl 2 rfl) ?_
  refine kX_isVariable S (p0 := p0) hl.1 dX0_pairs_3 ?_
  refine z_eq (tgt := 24) S dX0_pairs_6 (by decide) (fun h0 => ?_) (fun h0 => ?_)
  · refine lv_iconst (v := (-1)) S.1 S.2.1 dX0_pairs_24 (by decide) ?_
    refine lv_istore (lv' := [(5, .int (-1)), (3, .long (lN 0)), (0, .ref (a 0)), (1, .int p0), (2, .int p1)]) S.1 S.2.1 dX0_pairs_25 hl (by decide) rfl (fun ls hl => ?_)
    refine lv_iconst (v := (nI 0)) S.1 S.2.1 dX0_pairs_27 (by decide) ?_
    refine lv_istore (lv' := [(6, .int (nI 0)), (5, .int (-1)), (3, .long (lN 0)), (0, .ref (a 0)), (1, .int p0), (2, .int p1)]) S.1 S.2.1 dX0_pairs_28 hl (by decide) rfl (fun ls hl => ?_)
    refine lv_iload S.1 S.2.1 dX0_pairs_30 (lv_at hl 0 rfl) ?_
    refine lv_sipush (v := (nI 4096)) S.1 S.2.1 dX0_pairs_32 (by decide) ?_
    refine n_ge (tgt := 84) S dX0_pairs_35 (by decide) (fun h1 => ?_) (fun h1 => ?_)
    · exact absurd h1 (by decide)
    · refine lv_iload S.1 S.2.1 dX0_pairs_38 (lv_at hl 1 rfl) ?_
      refine lv_if_lt (tgt := 84) S.1 S.2.1 dX0_pairs_40 (by decide) (fun h2 => ?_) (fun h2 => ?_)
      · have es : lN 0 = lN (paS (ansB on rl fi se n) p0 p1) := by unfold paS; rw [if_neg (by simp [h0])]
        rw [es] at hl
        refine lv_iconst (v := (nI 0)) S.1 S.2.1 dX0_pairs_84 (by decide) ?_
        refine lv_istore (lv' := [(6, .int (nI 0)), (5, .int (-1)), (3, .long (lN (paS (ansB on rl fi se n) p0 p1))), (0, .ref (a 0)), (1, .int p0), (2, .int p1)]) S.1 S.2.1 dX0_pairs_85 hl (by decide) rfl (fun ls hl => ?_)
        refine lv_iconst (v := (nI 0)) S.1 S.2.1 dX0_pairs_87 (by decide) ?_
        refine lv_istore (lv' := [(7, .int (nI 0)), (6, .int (nI 0)), (5, .int (-1)), (3, .long (lN (paS (ansB on rl fi se n) p0 p1))), (0, .ref (a 0)), (1, .int p0), (2, .int p1)]) S.1 S.2.1 dX0_pairs_88 hl (by decide) rfl (fun ls hl => ?_)
        have hset : paS (ansB on rl fi se n) p0 p1 < 2 ^ 64 := paS_lt _ _ _
        refine loopR (α := Nat) (fun i ls => lv_has ls 8 [(7, .int (nI i)), (6, .int (nI (cnt (fun k => (paS (ansB on rl fi se n) p0 p1).testBit k) i))), (3, .long (lN (paS (ansB on rl fi se n) p0 p1)))] ∧ i ≤ 64) (fun i => 64 - i) (fun i ls hJ ih => ?_) 0 ls ⟨lv_sub hl [0, 1, 3] rfl, by decide⟩
        obtain ⟨hl, hi⟩ := hJ
        refine lv_iload S.1 S.2.1 dX0_pairs_90 (lv_at hl 0 rfl) ?_
        refine lv_bipush (v := (nI 64)) S.1 S.2.1 dX0_pairs_92 (by decide) ?_
        refine n_ge (tgt := 115) S dX0_pairs_94 (by decide) (fun g1 => ?_) (fun g1 => ?_)
        · have e9 : i = 64 := by omega
          subst e9
          refine lv_iload S.1 S.2.1 dX0_pairs_115 (lv_at hl 1 rfl) ?_
          exact xr_int S hr hlk hP hS rfl dX0_pairs_117
        · refine lv_iload S.1 S.2.1 dX0_pairs_97 (lv_at hl 1 rfl) ?_
          refine lv_lload_n S.1 S.2.1 dX0_pairs_99 rfl (lv_at hl 2 rfl) ?_
          refine lv_iload S.1 S.2.1 dX0_pairs_100 (lv_at hl 0 rfl) ?_
          refine lv_lushr (v := lN (((paS (ansB on rl fi se n) p0 p1)) / 2 ^ i)) S.1 S.2.1 dX0_pairs_102 (wb_shr hset (by omega)) ?_
          refine lv_lconst (v := lN 1) S.1 S.2.1 dX0_pairs_103 (by decide) ?_
          refine lv_land S.1 S.2.1 dX0_pairs_104 ?_
          refine ltop (y := lN (((((paS (ansB on rl fi se n) p0 p1)) / 2 ^ i)) % 2)) (wb_a1 (Nat.lt_of_le_of_lt (Nat.div_le_self _ _) hset)) ?_
          refine lv_l2i (v := nI ((((((paS (ansB on rl fi se n) p0 p1)) / 2 ^ i)) % 2))) S.1 S.2.1 dX0_pairs_105 (lN_i _) ?_
          refine n_iadd S dX0_pairs_106 ?_
          refine lv_istore (lv' := [(6, .int (nI ((cnt (fun k => (paS (ansB on rl fi se n) p0 p1).testBit k) i) + ((((((paS (ansB on rl fi se n) p0 p1)) / 2 ^ i)) % 2))))), (7, .int (nI i)), (3, .long (lN (paS (ansB on rl fi se n) p0 p1)))]) S.1 S.2.1 dX0_pairs_107 hl (by decide) rfl (fun ls hl => ?_)
          refine n_iinc (x := i) (k := 1) (lv' := [(7, .int (nI (i + 1))), (6, .int (nI ((cnt (fun k => (paS (ansB on rl fi se n) p0 p1).testBit k) i) + ((((((paS (ansB on rl fi se n) p0 p1)) / 2 ^ i)) % 2))))), (3, .long (lN (paS (ansB on rl fi se n) p0 p1)))]) S dX0_pairs_109 hl rfl (by decide) rfl (fun ls hl => ?_)
          refine lv_goto (tgt := 90) S.1 S.2.1 dX0_pairs_112 (by decide) ?_
          refine ih (i + 1) ls ⟨?_, by omega⟩ (by omega)
          rw [cnt_bit]
          exact lv_sub hl [0, 1, 2] rfl
      · exact absurd (by decide) h2
  · refine lv_iload_n S.1 S.2.1 dX0_pairs_9 rfl (lv_at hl 3 rfl) ?_
    refine kX_isVariable S (p0 := p1) hl.1 dX0_pairs_10 ?_
    refine z_eq (tgt := 24) S dX0_pairs_13 (by decide) (fun h9 => ?_) (fun h9 => ?_)
    · refine lv_iconst (v := (-1)) S.1 S.2.1 dX0_pairs_24 (by decide) ?_
      refine lv_istore (lv' := [(5, .int (-1)), (3, .long (lN 0)), (0, .ref (a 0)), (1, .int p0), (2, .int p1)]) S.1 S.2.1 dX0_pairs_25 hl (by decide) rfl (fun ls hl => ?_)
      refine lv_iconst (v := (nI 0)) S.1 S.2.1 dX0_pairs_27 (by decide) ?_
      refine lv_istore (lv' := [(6, .int (nI 0)), (5, .int (-1)), (3, .long (lN 0)), (0, .ref (a 0)), (1, .int p0), (2, .int p1)]) S.1 S.2.1 dX0_pairs_28 hl (by decide) rfl (fun ls hl => ?_)
      refine lv_iload S.1 S.2.1 dX0_pairs_30 (lv_at hl 0 rfl) ?_
      refine lv_sipush (v := (nI 4096)) S.1 S.2.1 dX0_pairs_32 (by decide) ?_
      refine n_ge (tgt := 84) S dX0_pairs_35 (by decide) (fun h1 => ?_) (fun h1 => ?_)
      · exact absurd h1 (by decide)
      · refine lv_iload S.1 S.2.1 dX0_pairs_38 (lv_at hl 1 rfl) ?_
        refine lv_if_lt (tgt := 84) S.1 S.2.1 dX0_pairs_40 (by decide) (fun h2 => ?_) (fun h2 => ?_)
        · have es : lN 0 = lN (paS (ansB on rl fi se n) p0 p1) := by unfold paS; rw [if_neg (by simp [h9])]
          rw [es] at hl
          refine lv_iconst (v := (nI 0)) S.1 S.2.1 dX0_pairs_84 (by decide) ?_
          refine lv_istore (lv' := [(6, .int (nI 0)), (5, .int (-1)), (3, .long (lN (paS (ansB on rl fi se n) p0 p1))), (0, .ref (a 0)), (1, .int p0), (2, .int p1)]) S.1 S.2.1 dX0_pairs_85 hl (by decide) rfl (fun ls hl => ?_)
          refine lv_iconst (v := (nI 0)) S.1 S.2.1 dX0_pairs_87 (by decide) ?_
          refine lv_istore (lv' := [(7, .int (nI 0)), (6, .int (nI 0)), (5, .int (-1)), (3, .long (lN (paS (ansB on rl fi se n) p0 p1))), (0, .ref (a 0)), (1, .int p0), (2, .int p1)]) S.1 S.2.1 dX0_pairs_88 hl (by decide) rfl (fun ls hl => ?_)
          have hset : paS (ansB on rl fi se n) p0 p1 < 2 ^ 64 := paS_lt _ _ _
          refine loopR (α := Nat) (fun i ls => lv_has ls 8 [(7, .int (nI i)), (6, .int (nI (cnt (fun k => (paS (ansB on rl fi se n) p0 p1).testBit k) i))), (3, .long (lN (paS (ansB on rl fi se n) p0 p1)))] ∧ i ≤ 64) (fun i => 64 - i) (fun i ls hJ ih => ?_) 0 ls ⟨lv_sub hl [0, 1, 3] rfl, by decide⟩
          obtain ⟨hl, hi⟩ := hJ
          refine lv_iload S.1 S.2.1 dX0_pairs_90 (lv_at hl 0 rfl) ?_
          refine lv_bipush (v := (nI 64)) S.1 S.2.1 dX0_pairs_92 (by decide) ?_
          refine n_ge (tgt := 115) S dX0_pairs_94 (by decide) (fun g1 => ?_) (fun g1 => ?_)
          · have e9 : i = 64 := by omega
            subst e9
            refine lv_iload S.1 S.2.1 dX0_pairs_115 (lv_at hl 1 rfl) ?_
            exact xr_int S hr hlk hP hS rfl dX0_pairs_117
          · refine lv_iload S.1 S.2.1 dX0_pairs_97 (lv_at hl 1 rfl) ?_
            refine lv_lload_n S.1 S.2.1 dX0_pairs_99 rfl (lv_at hl 2 rfl) ?_
            refine lv_iload S.1 S.2.1 dX0_pairs_100 (lv_at hl 0 rfl) ?_
            refine lv_lushr (v := lN (((paS (ansB on rl fi se n) p0 p1)) / 2 ^ i)) S.1 S.2.1 dX0_pairs_102 (wb_shr hset (by omega)) ?_
            refine lv_lconst (v := lN 1) S.1 S.2.1 dX0_pairs_103 (by decide) ?_
            refine lv_land S.1 S.2.1 dX0_pairs_104 ?_
            refine ltop (y := lN (((((paS (ansB on rl fi se n) p0 p1)) / 2 ^ i)) % 2)) (wb_a1 (Nat.lt_of_le_of_lt (Nat.div_le_self _ _) hset)) ?_
            refine lv_l2i (v := nI ((((((paS (ansB on rl fi se n) p0 p1)) / 2 ^ i)) % 2))) S.1 S.2.1 dX0_pairs_105 (lN_i _) ?_
            refine n_iadd S dX0_pairs_106 ?_
            refine lv_istore (lv' := [(6, .int (nI ((cnt (fun k => (paS (ansB on rl fi se n) p0 p1).testBit k) i) + ((((((paS (ansB on rl fi se n) p0 p1)) / 2 ^ i)) % 2))))), (7, .int (nI i)), (3, .long (lN (paS (ansB on rl fi se n) p0 p1)))]) S.1 S.2.1 dX0_pairs_107 hl (by decide) rfl (fun ls hl => ?_)
            refine n_iinc (x := i) (k := 1) (lv' := [(7, .int (nI (i + 1))), (6, .int (nI ((cnt (fun k => (paS (ansB on rl fi se n) p0 p1).testBit k) i) + ((((((paS (ansB on rl fi se n) p0 p1)) / 2 ^ i)) % 2))))), (3, .long (lN (paS (ansB on rl fi se n) p0 p1)))]) S dX0_pairs_109 hl rfl (by decide) rfl (fun ls hl => ?_)
            refine lv_goto (tgt := 90) S.1 S.2.1 dX0_pairs_112 (by decide) ?_
            refine ih (i + 1) ls ⟨?_, by omega⟩ (by omega)
            rw [cnt_bit]
            exact lv_sub hl [0, 1, 2] rfl
        · exact absurd (by decide) h2
    · obtain ⟨v, hv, rfl⟩ := inR_t (by decide) h0
      obtain ⟨w, hw, rfl⟩ := inR_t (by decide) h9
      refine lv_aload_n S.1 S.2.1 dX0_pairs_16 rfl (lv_at hl 1 rfl) ?_
      refine lv_iconst (v := (nI 0)) S.1 S.2.1 dX0_pairs_17 (by decide) ?_
      refine kX_nx S hK hP hA (k := 0) (by decide) hI0 hS (fun q h => h) hl.1 dX0_pairs_18 (fun H locs th le hP hS => ?_)
      refine lv_goto (tgt := 25) S.1 S.2.1 dX0_pairs_21 (by decide) ?_
      refine lv_istore (lv' := [(5, .int (enc (nx (ansB on rl fi se n) 0))), (3, .long (lN 0)), (0, .ref (a 0)), (1, .int (nI v)), (2, .int (nI w))]) S.1 S.2.1 dX0_pairs_25 hl (by decide) rfl (fun ls hl => ?_)
      refine lv_iconst (v := (nI 0)) S.1 S.2.1 dX0_pairs_27 (by decide) ?_
      refine lv_istore (lv' := [(6, .int (nI 0)), (5, .int (enc (nx (ansB on rl fi se n) 0))), (3, .long (lN 0)), (0, .ref (a 0)), (1, .int (nI v)), (2, .int (nI w))]) S.1 S.2.1 dX0_pairs_28 hl (by decide) rfl (fun ls hl => ?_)
      have g0 := nx_spec (P := ansB on rl fi se n) (k := 0) (by omega)
      obtain ⟨g1, g2, g3, g4⟩ := g0
      have z0 : pset (ansB on rl fi se n) v w (nx (ansB on rl fi se n) 0) = 0 := gap (P := ansB on rl fi se n) (F := pset (ansB on rl fi se n) v w) (fun k hk => pset_f hk) _ g1 g4
      refine loopW2 (α := Nat) (β := Nat) (fun N k H locs ls => lv_has ls 8 [(6, .int (nI k)), (5, .int (enc N)), (3, .long (lN (pset (ansB on rl fi se n) v w N))), (0, .ref (a 0)), (1, .int (nI v)), (2, .int (nI w))] ∧ (∃ th le, va_P D vwCl (xw a cS cB on bk rl fi se n th le) H) ∧ va_S (xA a 8) s.heap H locs ∧ N ≤ 4096 ∧ (N < 4096 → ansB on rl fi se n N = true) ∧ k ≤ N) (fun N k => 4096 - N) (fun N k H locs ls hJ ih => ?_) (nx (ansB on rl fi se n) 0) 0 H locs ls ⟨by rw [z0]; exact lv_sub hl [0, 1, 2, 3, 4, 5] rfl, ⟨th, le, hP⟩, hS, g2, g3, Nat.zero_le _⟩
      obtain ⟨hl, ⟨th, le, hP⟩, hS, hN, hN2, hkN⟩ := hJ
      refine lv_iload S.1 S.2.1 dX0_pairs_30 (lv_at hl 0 rfl) ?_
      refine lv_sipush (v := (nI 4096)) S.1 S.2.1 dX0_pairs_32 (by decide) ?_
      refine n_ge (tgt := 84) S dX0_pairs_35 (by decide) (fun h1 => ?_) (fun h1 => ?_)
      · have e9 : N = 4096 := by omega
        subst e9
        have es : pset (ansB on rl fi se n) v w 4096 = paS (ansB on rl fi se n) (nI v) (nI w) := by unfold paS; rw [if_pos (by simp [h0, h9]), nI_clamp (by omega), nI_clamp (by omega)]
        rw [es] at hl
        refine lv_iconst (v := (nI 0)) S.1 S.2.1 dX0_pairs_84 (by decide) ?_
        refine lv_istore (lv' := [(6, .int (nI 0)), (5, .int (enc 4096)), (3, .long (lN (paS (ansB on rl fi se n) (nI v) (nI w)))), (0, .ref (a 0)), (1, .int (nI v)), (2, .int (nI w))]) S.1 S.2.1 dX0_pairs_85 hl (by decide) rfl (fun ls hl => ?_)
        refine lv_iconst (v := (nI 0)) S.1 S.2.1 dX0_pairs_87 (by decide) ?_
        refine lv_istore (lv' := [(7, .int (nI 0)), (6, .int (nI 0)), (5, .int (enc 4096)), (3, .long (lN (paS (ansB on rl fi se n) (nI v) (nI w)))), (0, .ref (a 0)), (1, .int (nI v)), (2, .int (nI w))]) S.1 S.2.1 dX0_pairs_88 hl (by decide) rfl (fun ls hl => ?_)
        have hset : paS (ansB on rl fi se n) (nI v) (nI w) < 2 ^ 64 := paS_lt _ _ _
        refine loopR (α := Nat) (fun i ls => lv_has ls 8 [(7, .int (nI i)), (6, .int (nI (cnt (fun k => (paS (ansB on rl fi se n) (nI v) (nI w)).testBit k) i))), (3, .long (lN (paS (ansB on rl fi se n) (nI v) (nI w))))] ∧ i ≤ 64) (fun i => 64 - i) (fun i ls hJ ih => ?_) 0 ls ⟨lv_sub hl [0, 1, 3] rfl, by decide⟩
        obtain ⟨hl, hi⟩ := hJ
        refine lv_iload S.1 S.2.1 dX0_pairs_90 (lv_at hl 0 rfl) ?_
        refine lv_bipush (v := (nI 64)) S.1 S.2.1 dX0_pairs_92 (by decide) ?_
        refine n_ge (tgt := 115) S dX0_pairs_94 (by decide) (fun g1 => ?_) (fun g1 => ?_)
        · have e9 : i = 64 := by omega
          subst e9
          refine lv_iload S.1 S.2.1 dX0_pairs_115 (lv_at hl 1 rfl) ?_
          exact xr_int S hr hlk hP hS rfl dX0_pairs_117
        · refine lv_iload S.1 S.2.1 dX0_pairs_97 (lv_at hl 1 rfl) ?_
          refine lv_lload_n S.1 S.2.1 dX0_pairs_99 rfl (lv_at hl 2 rfl) ?_
          refine lv_iload S.1 S.2.1 dX0_pairs_100 (lv_at hl 0 rfl) ?_
          refine lv_lushr (v := lN (((paS (ansB on rl fi se n) (nI v) (nI w))) / 2 ^ i)) S.1 S.2.1 dX0_pairs_102 (wb_shr hset (by omega)) ?_
          refine lv_lconst (v := lN 1) S.1 S.2.1 dX0_pairs_103 (by decide) ?_
          refine lv_land S.1 S.2.1 dX0_pairs_104 ?_
          refine ltop (y := lN (((((paS (ansB on rl fi se n) (nI v) (nI w))) / 2 ^ i)) % 2)) (wb_a1 (Nat.lt_of_le_of_lt (Nat.div_le_self _ _) hset)) ?_
          refine lv_l2i (v := nI ((((((paS (ansB on rl fi se n) (nI v) (nI w))) / 2 ^ i)) % 2))) S.1 S.2.1 dX0_pairs_105 (lN_i _) ?_
          refine n_iadd S dX0_pairs_106 ?_
          refine lv_istore (lv' := [(6, .int (nI ((cnt (fun k => (paS (ansB on rl fi se n) (nI v) (nI w)).testBit k) i) + ((((((paS (ansB on rl fi se n) (nI v) (nI w))) / 2 ^ i)) % 2))))), (7, .int (nI i)), (3, .long (lN (paS (ansB on rl fi se n) (nI v) (nI w))))]) S.1 S.2.1 dX0_pairs_107 hl (by decide) rfl (fun ls hl => ?_)
          refine n_iinc (x := i) (k := 1) (lv' := [(7, .int (nI (i + 1))), (6, .int (nI ((cnt (fun k => (paS (ansB on rl fi se n) (nI v) (nI w)).testBit k) i) + ((((((paS (ansB on rl fi se n) (nI v) (nI w))) / 2 ^ i)) % 2))))), (3, .long (lN (paS (ansB on rl fi se n) (nI v) (nI w))))]) S dX0_pairs_109 hl rfl (by decide) rfl (fun ls hl => ?_)
          refine lv_goto (tgt := 90) S.1 S.2.1 dX0_pairs_112 (by decide) ?_
          refine ih (i + 1) ls ⟨?_, by omega⟩ (by omega)
          rw [cnt_bit]
          exact lv_sub hl [0, 1, 2] rfl
      · refine lv_iload S.1 S.2.1 dX0_pairs_38 (lv_at hl 1 rfl) ?_
        refine lv_if_lt (tgt := 84) S.1 S.2.1 dX0_pairs_40 (by decide) (fun h2 => ?_) (fun h2 => ?_)
        · have h2 := enc_neg.mp h2
          have e9 : N = 4096 := by omega
          subst e9
          have es : pset (ansB on rl fi se n) v w 4096 = paS (ansB on rl fi se n) (nI v) (nI w) := by unfold paS; rw [if_pos (by simp [h0, h9]), nI_clamp (by omega), nI_clamp (by omega)]
          rw [es] at hl
          refine lv_iconst (v := (nI 0)) S.1 S.2.1 dX0_pairs_84 (by decide) ?_
          refine lv_istore (lv' := [(6, .int (nI 0)), (5, .int (enc 4096)), (3, .long (lN (paS (ansB on rl fi se n) (nI v) (nI w)))), (0, .ref (a 0)), (1, .int (nI v)), (2, .int (nI w))]) S.1 S.2.1 dX0_pairs_85 hl (by decide) rfl (fun ls hl => ?_)
          refine lv_iconst (v := (nI 0)) S.1 S.2.1 dX0_pairs_87 (by decide) ?_
          refine lv_istore (lv' := [(7, .int (nI 0)), (6, .int (nI 0)), (5, .int (enc 4096)), (3, .long (lN (paS (ansB on rl fi se n) (nI v) (nI w)))), (0, .ref (a 0)), (1, .int (nI v)), (2, .int (nI w))]) S.1 S.2.1 dX0_pairs_88 hl (by decide) rfl (fun ls hl => ?_)
          have hset : paS (ansB on rl fi se n) (nI v) (nI w) < 2 ^ 64 := paS_lt _ _ _
          refine loopR (α := Nat) (fun i ls => lv_has ls 8 [(7, .int (nI i)), (6, .int (nI (cnt (fun k => (paS (ansB on rl fi se n) (nI v) (nI w)).testBit k) i))), (3, .long (lN (paS (ansB on rl fi se n) (nI v) (nI w))))] ∧ i ≤ 64) (fun i => 64 - i) (fun i ls hJ ih => ?_) 0 ls ⟨lv_sub hl [0, 1, 3] rfl, by decide⟩
          obtain ⟨hl, hi⟩ := hJ
          refine lv_iload S.1 S.2.1 dX0_pairs_90 (lv_at hl 0 rfl) ?_
          refine lv_bipush (v := (nI 64)) S.1 S.2.1 dX0_pairs_92 (by decide) ?_
          refine n_ge (tgt := 115) S dX0_pairs_94 (by decide) (fun g1 => ?_) (fun g1 => ?_)
          · have e9 : i = 64 := by omega
            subst e9
            refine lv_iload S.1 S.2.1 dX0_pairs_115 (lv_at hl 1 rfl) ?_
            exact xr_int S hr hlk hP hS rfl dX0_pairs_117
          · refine lv_iload S.1 S.2.1 dX0_pairs_97 (lv_at hl 1 rfl) ?_
            refine lv_lload_n S.1 S.2.1 dX0_pairs_99 rfl (lv_at hl 2 rfl) ?_
            refine lv_iload S.1 S.2.1 dX0_pairs_100 (lv_at hl 0 rfl) ?_
            refine lv_lushr (v := lN (((paS (ansB on rl fi se n) (nI v) (nI w))) / 2 ^ i)) S.1 S.2.1 dX0_pairs_102 (wb_shr hset (by omega)) ?_
            refine lv_lconst (v := lN 1) S.1 S.2.1 dX0_pairs_103 (by decide) ?_
            refine lv_land S.1 S.2.1 dX0_pairs_104 ?_
            refine ltop (y := lN (((((paS (ansB on rl fi se n) (nI v) (nI w))) / 2 ^ i)) % 2)) (wb_a1 (Nat.lt_of_le_of_lt (Nat.div_le_self _ _) hset)) ?_
            refine lv_l2i (v := nI ((((((paS (ansB on rl fi se n) (nI v) (nI w))) / 2 ^ i)) % 2))) S.1 S.2.1 dX0_pairs_105 (lN_i _) ?_
            refine n_iadd S dX0_pairs_106 ?_
            refine lv_istore (lv' := [(6, .int (nI ((cnt (fun k => (paS (ansB on rl fi se n) (nI v) (nI w)).testBit k) i) + ((((((paS (ansB on rl fi se n) (nI v) (nI w))) / 2 ^ i)) % 2))))), (7, .int (nI i)), (3, .long (lN (paS (ansB on rl fi se n) (nI v) (nI w))))]) S.1 S.2.1 dX0_pairs_107 hl (by decide) rfl (fun ls hl => ?_)
            refine n_iinc (x := i) (k := 1) (lv' := [(7, .int (nI (i + 1))), (6, .int (nI ((cnt (fun k => (paS (ansB on rl fi se n) (nI v) (nI w)).testBit k) i) + ((((((paS (ansB on rl fi se n) (nI v) (nI w))) / 2 ^ i)) % 2))))), (3, .long (lN (paS (ansB on rl fi se n) (nI v) (nI w))))]) S dX0_pairs_109 hl rfl (by decide) rfl (fun ls hl => ?_)
            refine lv_goto (tgt := 90) S.1 S.2.1 dX0_pairs_112 (by decide) ?_
            refine ih (i + 1) ls ⟨?_, by omega⟩ (by omega)
            rw [cnt_bit]
            exact lv_sub hl [0, 1, 2] rfl
        · have h2 : N < 4096 := by
            rcases Nat.lt_or_ge N 4096 with q | q
            · exact q
            · exact absurd (enc_neg.mpr q) h2
          rw [enc_lt h2] at hl
          have hPN := hN2 h2
          have b1 := plc_lt v w N
          refine lv_bipush (v := (nI 8)) S.1 S.2.1 dX0_pairs_43 (by decide) ?_
          refine lv_iload S.1 S.2.1 dX0_pairs_45 (lv_at hl 1 rfl) ?_
          refine lv_iload_n S.1 S.2.1 dX0_pairs_47 rfl (lv_at hl 4 rfl) ?_
          refine kX_digit S (k := N) (d := v) (by omega) hv hl.1 dX0_pairs_48 ?_
          refine n_imul S dX0_pairs_51 ?_
          refine lv_iload S.1 S.2.1 dX0_pairs_52 (lv_at hl 1 rfl) ?_
          refine lv_iload_n S.1 S.2.1 dX0_pairs_54 rfl (lv_at hl 5 rfl) ?_
          refine kX_digit S (k := N) (d := w) (by omega) hw hl.1 dX0_pairs_55 ?_
          refine n_iadd S dX0_pairs_58 ?_
          refine n_top (y := (nI (plc v w N))) rfl ?_
          refine lv_istore (lv' := [(7, .int (nI (plc v w N))), (6, .int (nI k)), (5, .int (nI N)), (3, .long (lN (pset (ansB on rl fi se n) v w N))), (0, .ref (a 0)), (1, .int (nI v)), (2, .int (nI w))]) S.1 S.2.1 dX0_pairs_59 hl (by decide) rfl (fun ls hl => ?_)
          refine lv_lload_n S.1 S.2.1 dX0_pairs_61 rfl (lv_at hl 3 rfl) ?_
          refine lv_lconst (v := lN 1) S.1 S.2.1 dX0_pairs_62 (by decide) ?_
          refine lv_iload S.1 S.2.1 dX0_pairs_63 (lv_at hl 0 rfl) ?_
          refine lv_lshl (v := lN (1 * 2 ^ (plc v w N))) S.1 S.2.1 dX0_pairs_65 (wb_shl 1 b1) ?_
          refine lv_lor S.1 S.2.1 dX0_pairs_66 ?_
          refine ltop (y := lN (((pset (ansB on rl fi se n) v w N)) ||| ((1 * 2 ^ (plc v w N))))) (wb_or (pset_lt _ _ _) (by rw [Nat.one_mul]; exact wb_lt2 b1)) ?_
          refine lv_lstore_n (lv' := [(3, .long (lN (((pset (ansB on rl fi se n) v w N)) ||| ((1 * 2 ^ (plc v w N)))))), (7, .int (nI (plc v w N))), (6, .int (nI k)), (5, .int (nI N)), (0, .ref (a 0)), (1, .int (nI v)), (2, .int (nI w))]) S.1 S.2.1 dX0_pairs_67 rfl hl (by decide) rfl (fun ls hl => ?_)
          refine lv_aload_n S.1 S.2.1 dX0_pairs_68 rfl (lv_at hl 4 rfl) ?_
          refine lv_iload S.1 S.2.1 dX0_pairs_69 (lv_at hl 3 rfl) ?_
          refine lv_iconst (v := (nI 1)) S.1 S.2.1 dX0_pairs_71 (by decide) ?_
          refine n_iadd S dX0_pairs_72 ?_
          refine kX_nx S hK hP hA (k := N + 1) (by omega) hI0 hS (fun q h => h) hl.1 dX0_pairs_73 (fun H locs th le hP hS => ?_)
          refine lv_istore (lv' := [(5, .int (enc (nx (ansB on rl fi se n) (N + 1)))), (3, .long (lN (((pset (ansB on rl fi se n) v w N)) ||| ((1 * 2 ^ (plc v w N)))))), (7, .int (nI (plc v w N))), (6, .int (nI k)), (0, .ref (a 0)), (1, .int (nI v)), (2, .int (nI w))]) S.1 S.2.1 dX0_pairs_76 hl (by decide) rfl (fun ls hl => ?_)
          refine n_iinc (x := k) (k := 3) (lv' := [(6, .int (nI (k + 1))), (5, .int (enc (nx (ansB on rl fi se n) (N + 1)))), (3, .long (lN (((pset (ansB on rl fi se n) v w N)) ||| ((1 * 2 ^ (plc v w N)))))), (7, .int (nI (plc v w N))), (0, .ref (a 0)), (1, .int (nI v)), (2, .int (nI w))]) S dX0_pairs_78 hl rfl (by decide) rfl (fun ls hl => ?_)
          refine lv_goto (tgt := 30) S.1 S.2.1 dX0_pairs_81 (by decide) ?_
          have g0 := nx_spec (P := ansB on rl fi se n) (k := N + 1) (by omega)
          obtain ⟨g1, g2, g3, g4⟩ := g0
          have z1 : pset (ansB on rl fi se n) v w (nx (ansB on rl fi se n) (N + 1)) = pset (ansB on rl fi se n) v w N ||| 1 * 2 ^ plc v w N := by
            rw [gap (P := ansB on rl fi se n) (F := pset (ansB on rl fi se n) v w) (fun k hk => pset_f hk) _ g1 g4, pset_t hPN, Nat.one_mul]
          exact ih (nx (ansB on rl fi se n) (N + 1)) (k + 1) H locs ls ⟨by rw [z1]; exact lv_sub hl [0, 1, 2, 4, 5, 6] rfl, ⟨th, le, hP⟩, hS, g2, g3, by omega⟩ (by omega)
theorem mX_loss (l : Launch) (hP : va_P D vwCl (xw a cS cB on bk rl fi se n th le) H) (hA : xAp a 8) (p0 : Int32) (p1 : Int32) (p2 : Int32) (hI : XI on bk rl fi se n) : Met l yX0_loss (ws_ yX0_loss cX0_loss 6 (some .int)) (rmK 6) (va_Pc [.ref (a 0), .int p0, .int p1, .int p2] (fun U => U.heap = H ∧ va_K D vwCl (tX cS cB) U)) (XQ D a cS cB (some (.int (loV on rl fi se n p0 p1 p2))) on bk rl fi se n) 0 0 (xA a 8) := by
  refine anyMet (by decide) (Nat.le_of_ble_eq_true rfl) (fun p e s m below meth c S hr hlk hin hH hK ls hl => ?_)
  have S : CallFix p m c cX0_loss 6 s _ lw_all RX0 := S
  have hl : lv_has ls 6 [(0, .ref (a 0)), (1, .int p0), (2, .int p1), (3, .int p2)] := hl
  have hS : va_S (xA a 8) s.heap H [] := by rw [hH]; exact va_S.rf
  have hI0 := hI
  have hon := hI.1
  refine lv_iload_n S.1 S.2.1 dX0_loss_0 rfl (lv_at hl 1 rfl) ?_
  refine kX_isRelation S (p0 := p0) hl.1 dX0_loss_1 ?_
  refine z_eq (tgt := 21) S dX0_loss_4 (by decide) (fun h1 => ?_) (fun h1 => ?_)
  · have ok : prOk p0 p1 p2 = false := by simp [prOk, h1]
    refine lv_iconst (v := (-1)) S.1 S.2.1 dX0_loss_21 (by decide) ?_
    exact xr_int S hr hlk hP hS (by simp [loV, ok]) dX0_loss_22
  · refine lv_iload_n S.1 S.2.1 dX0_loss_7 rfl (lv_at hl 2 rfl) ?_
    refine kX_isThing S (p0 := p1) hl.1 dX0_loss_8 ?_
    refine z_eq (tgt := 21) S dX0_loss_11 (by decide) (fun h2 => ?_) (fun h2 => ?_)
    · have ok : prOk p0 p1 p2 = false := by simp [prOk, h1, h2]
      refine lv_iconst (v := (-1)) S.1 S.2.1 dX0_loss_21 (by decide) ?_
      exact xr_int S hr hlk hP hS (by simp [loV, ok]) dX0_loss_22
    · refine lv_iload_n S.1 S.2.1 dX0_loss_14 rfl (lv_at hl 3 rfl) ?_
      refine kX_isThing S (p0 := p2) hl.1 dX0_loss_15 ?_
      refine z_ne (tgt := 23) S dX0_loss_18 (by decide) (fun h3 => ?_) (fun h3 => ?_)
      · obtain ⟨r, e1, rfl⟩ := inR_t (by decide) h1
        obtain ⟨x, e2, rfl⟩ := inR_t (by decide) h2
        obtain ⟨y, e3, rfl⟩ := inR_t (by decide) h3
        have ok := prOk_n e1 e2 e3
        have c1 := hon (r * 8 + x)
        have c2 := hI0.2.1 (r * 8 + y)
        refine lv_aload_n S.1 S.2.1 dX0_loss_23 rfl (lv_at hl 0 rfl) ?_
        refine gX_on S hK hP dX0_loss_24 ?_
        refine lv_iload_n S.1 S.2.1 dX0_loss_27 rfl (lv_at hl 1 rfl) ?_
        refine lv_bipush (v := (nI 8)) S.1 S.2.1 dX0_loss_28 (by decide) ?_
        refine n_imul S dX0_loss_30 ?_
        refine lv_iload_n S.1 S.2.1 dX0_loss_31 rfl (lv_at hl 2 rfl) ?_
        refine n_iadd S dX0_loss_32 ?_
        refine lX_on S hK hP (by omega) dX0_loss_33 ?_
        refine lv_iload_n S.1 S.2.1 dX0_loss_34 rfl (lv_at hl 3 rfl) ?_
        refine kX_in S (w := on (r * 8 + x)) (y := y) (by omega) (by omega) hl.1 dX0_loss_35 ?_
        refine z_ne (tgt := 43) S dX0_loss_38 (by decide) (fun h5 => ?_) (fun h5 => ?_)
        · refine lv_aload_n S.1 S.2.1 dX0_loss_43 rfl (lv_at hl 0 rfl) ?_
          refine kX_count S hK hP hA hI0 hS (fun q h => h) hl.1 dX0_loss_44 (fun H locs th le hP _ hS => ?_)
          refine lv_istore (lv' := [(4, .int (nI (cnt (ansB on rl fi se n) 4096))), (0, .ref (a 0)), (1, .int (nI r)), (2, .int (nI x)), (3, .int (nI y))]) S.1 S.2.1 dX0_loss_47 hl (by decide) rfl (fun ls hl => ?_)
          refine lv_aload_n S.1 S.2.1 dX0_loss_49 rfl (lv_at hl 1 rfl) ?_
          refine lv_iload_n S.1 S.2.1 dX0_loss_50 rfl (lv_at hl 2 rfl) ?_
          refine lv_iload_n S.1 S.2.1 dX0_loss_51 rfl (lv_at hl 3 rfl) ?_
          refine lv_iload_n S.1 S.2.1 dX0_loss_52 rfl (lv_at hl 4 rfl) ?_
          refine lv_iconst (v := (bI false)) S.1 S.2.1 dX0_loss_53 (by decide) ?_
          refine kX_put S hK hP hA (r := r) (x := x) (y := y) (f := false) hI0 e1 e2 e3 hS (fun q h => h) hl.1 dX0_loss_54 (fun H locs th le hP _ hS => ?_)
          have hI1 := XI_put (f := false) hI0 e1 e2 e3
          refine lv_aload_n S.1 S.2.1 dX0_loss_57 rfl (lv_at hl 1 rfl) ?_
          refine kX_count S hK hP hA hI1 hS (fun q h => h) hl.1 dX0_loss_58 (fun H locs th le hP _ hS => ?_)
          refine lv_istore (lv' := [(5, .int (nI (cnt (ansB (va_up on (r * 8 + x) (putB (on (r * 8 + x)) y false)) rl fi se n) 4096))), (4, .int (nI (cnt (ansB on rl fi se n) 4096))), (0, .ref (a 0)), (1, .int (nI r)), (2, .int (nI x)), (3, .int (nI y))]) S.1 S.2.1 dX0_loss_61 hl (by decide) rfl (fun ls hl => ?_)
          refine lv_aload_n S.1 S.2.1 dX0_loss_63 rfl (lv_at hl 2 rfl) ?_
          refine lv_iload_n S.1 S.2.1 dX0_loss_64 rfl (lv_at hl 3 rfl) ?_
          refine lv_iload_n S.1 S.2.1 dX0_loss_65 rfl (lv_at hl 4 rfl) ?_
          refine lv_iload_n S.1 S.2.1 dX0_loss_66 rfl (lv_at hl 5 rfl) ?_
          refine lv_iconst (v := (bI true)) S.1 S.2.1 dX0_loss_67 (by decide) ?_
          refine kX_put S hK hP hA (r := r) (x := x) (y := y) (f := true) hI1 e1 e2 e3 hS (fun q h => h) hl.1 dX0_loss_68 (fun H locs th le hP _ hS => ?_)
          have h6 : (bk (r * 8 + y)).testBit x = true := by rw [← hI0.2.2.2.2.2.2 r x y e1 e2 e3]; exact h5
          rw [put_back h5 c1 e3 rfl, put_back h6 c2 e2 rfl] at hP
          refine lv_iload S.1 S.2.1 dX0_loss_71 (lv_at hl 1 rfl) ?_
          refine lv_iload S.1 S.2.1 dX0_loss_73 (lv_at hl 0 rfl) ?_
          refine lv_isub S.1 S.2.1 dX0_loss_75 ?_
          exact xr_int S hr hlk hP hS (by unfold loV; rw [if_pos ok, nI_clamp (n := r) (by omega), nI_clamp (n := x) (by omega), nI_clamp (n := y) (by omega), if_pos h5, prOn_n e1 e2 e3]) dX0_loss_76
        · refine lv_iconst (v := (nI 0)) S.1 S.2.1 dX0_loss_41 (by decide) ?_
          exact xr_int S hr hlk hP hS (by unfold loV; rw [if_pos ok, nI_clamp (by omega), nI_clamp (by omega), nI_clamp (by omega), h5]; rfl) dX0_loss_42
      · have ok : prOk p0 p1 p2 = false := by simp [prOk, h1, h2, h3]
        refine lv_iconst (v := (-1)) S.1 S.2.1 dX0_loss_21 (by decide) ?_
        exact xr_int S hr hlk hP hS (by simp [loV, ok]) dX0_loss_22
theorem mX_partners (l : Launch) (hP : va_P D vwCl (xw a cS cB on bk rl fi se n th le) H) (p0 : Int32) (p1 : Int32) (p2 : Int32)  : Met l yX0_partners (ws_ yX0_partners cX0_partners 4 (some .int)) (rmK 1) (va_Pc [.ref (a 0), .int p0, .int p1, .int p2] (fun U => U.heap = H ∧ va_K D vwCl (tX cS cB) U)) (QcRead ((ptV on bk p0 p1 p2))) 0 0 (fun _ => False) := by
  refine anyMet (by decide) (Nat.le_of_ble_eq_true rfl) (fun p e s m below meth c S hr hlk hin hH hK ls hl => ?_)
  have S : CallFix p m c cX0_partners 4 s _ lw_all RX0 := S
  have hl : lv_has ls 4 [(0, .ref (a 0)), (1, .int p0), (2, .int p1), (3, .int p2)] := hl
  refine lv_iload_n S.1 S.2.1 dX0_partners_0 rfl (lv_at hl 1 rfl) ?_
  refine kX_isRelation S (p0 := p0) hl.1 dX0_partners_1 ?_
  refine z_eq (tgt := 23) S dX0_partners_4 (by decide) (fun h1 => ?_) (fun h1 => ?_)
  · refine lv_iconst (v := (nI 0)) S.1 S.2.1 dX0_partners_23 (by decide) ?_
    exact r_int S hr hlk hH (by simp [ptV, h1]; rfl) dX0_partners_24
  · refine lv_iload_n S.1 S.2.1 dX0_partners_7 rfl (lv_at hl 2 rfl) ?_
    refine kX_isThing S (p0 := p1) hl.1 dX0_partners_8 ?_
    refine z_eq (tgt := 23) S dX0_partners_11 (by decide) (fun h2 => ?_) (fun h2 => ?_)
    · refine lv_iconst (v := (nI 0)) S.1 S.2.1 dX0_partners_23 (by decide) ?_
      exact r_int S hr hlk hH (by simp [ptV, h2]; rfl) dX0_partners_24
    · obtain ⟨r, e1, rfl⟩ := inR_t (by decide) h1
      obtain ⟨x, e2, rfl⟩ := inR_t (by decide) h2
      have ok : (inR (nI r) 3 && inR (nI x) 8) = true := by rw [h1, h2]; rfl
      refine lv_iload_n S.1 S.2.1 dX0_partners_14 rfl (lv_at hl 3 rfl) ?_
      refine lv_if_lt (tgt := 23) S.1 S.2.1 dX0_partners_15 (by decide) (fun h3 => ?_) (fun h3 => ?_)
      · refine lv_iconst (v := (nI 0)) S.1 S.2.1 dX0_partners_23 (by decide) ?_
        exact r_int S hr hlk hH (by unfold ptV; rw [if_pos ok, if_neg (fun q => absurd h3 (by rw [q]; decide)), if_neg (fun q => absurd h3 (by rw [q]; decide))]; rfl) dX0_partners_24
      · refine lv_iload_n S.1 S.2.1 dX0_partners_18 rfl (lv_at hl 3 rfl) ?_
        refine lv_iconst (v := (nI 1)) S.1 S.2.1 dX0_partners_19 (by decide) ?_
        refine lv_icmp_le (tgt := 25) S.1 S.2.1 dX0_partners_20 (by decide) (fun h4 => ?_) (fun h4 => ?_)
        · refine lv_iload_n S.1 S.2.1 dX0_partners_25 rfl (lv_at hl 3 rfl) ?_
          refine lv_if_ne (tgt := 43) S.1 S.2.1 dX0_partners_26 (by decide) (fun h5 => ?_) (fun h5 => ?_)
          · refine lv_aload_n S.1 S.2.1 dX0_partners_43 rfl (lv_at hl 0 rfl) ?_
            refine gX_bk S hK hP dX0_partners_44 ?_
            refine lv_iload_n S.1 S.2.1 dX0_partners_47 rfl (lv_at hl 1 rfl) ?_
            refine lv_bipush (v := (nI 8)) S.1 S.2.1 dX0_partners_48 (by decide) ?_
            refine n_imul S dX0_partners_50 ?_
            refine lv_iload_n S.1 S.2.1 dX0_partners_51 rfl (lv_at hl 2 rfl) ?_
            refine n_iadd S dX0_partners_52 ?_
            refine lX_bk S hK hP (by omega) dX0_partners_53 ?_
            exact r_int S hr hlk hH (by
      have h6 : p2 = 1 := by
        obtain ⟨j, hj, rfl⟩ := nI_of h3
        rw [nI_leI hj (by decide)] at h4
        have h7 : j ≠ 0 := fun q => h5 (by rw [q]; rfl)
        have h8 : j = 1 := by omega
        rw [h8]; rfl
      unfold ptV; rw [if_pos ok, if_neg h5, if_pos h6, nI_clamp (by omega), nI_clamp (by omega)]) dX0_partners_54
          · refine lv_aload_n S.1 S.2.1 dX0_partners_29 rfl (lv_at hl 0 rfl) ?_
            refine gX_on S hK hP dX0_partners_30 ?_
            refine lv_iload_n S.1 S.2.1 dX0_partners_33 rfl (lv_at hl 1 rfl) ?_
            refine lv_bipush (v := (nI 8)) S.1 S.2.1 dX0_partners_34 (by decide) ?_
            refine n_imul S dX0_partners_36 ?_
            refine lv_iload_n S.1 S.2.1 dX0_partners_37 rfl (lv_at hl 2 rfl) ?_
            refine n_iadd S dX0_partners_38 ?_
            refine lX_on S hK hP (by omega) dX0_partners_39 ?_
            refine lv_goto (tgt := 54) S.1 S.2.1 dX0_partners_40 (by decide) ?_
            exact r_int S hr hlk hH (by unfold ptV; rw [if_pos ok, if_pos h5, nI_clamp (by omega), nI_clamp (by omega)]) dX0_partners_54
        · refine lv_iconst (v := (nI 0)) S.1 S.2.1 dX0_partners_23 (by decide) ?_
          exact r_int S hr hlk hH (by unfold ptV; rw [if_pos ok, if_neg (fun q => h4 (by rw [q]; decide)), if_neg (fun q => h4 (by rw [q]; decide))]; rfl) dX0_partners_24
end Methods
end
section
set_option maxRecDepth 100000
theorem bcase (b : Bool) : b = false ∨ b = true := by cases b <;> simp
theorem allB_mono {f : Nat → Bool} {i n : Nat} (hi : i ≤ n) (h : allB f i = false) : allB f n = false := by
  cases h2 : allB f n with
  | false => rfl
  | true =>
    have : allB f i = true := (allB_iff f i).mpr (fun j hj => (allB_iff f n).mp h2 j (by omega))
    rw [h] at this; cases this
theorem or_lt16 {u x y : Nat} (hu : u < 16) (hx : x < 4) (hy : y < 4) : u ||| 2 ^ x ||| 2 ^ y < 16 := by
  have h1 : (2 : Nat) ^ x < 2 ^ 4 := Nat.pow_lt_pow_right (by decide) hx
  have h2 : (2 : Nat) ^ y < 2 ^ 4 := Nat.pow_lt_pow_right (by decide) hy
  exact Nat.or_lt_two_pow (n := 4) (Nat.or_lt_two_pow (n := 4) hu h1) h2
theorem us_step {fi se : Nat → Nat} {u i v : Nat} (h : u.testBit v = anyB (usB fi se v) i) : (u ||| 2 ^ fi i ||| 2 ^ se i).testBit v = anyB (usB fi se v) (i + 1) := by
  rw [Nat.testBit_or, Nat.testBit_or, Nat.testBit_two_pow, Nat.testBit_two_pow, h]
  show _ = (anyB (usB fi se v) i || (fi i == v || se i == v))
  rw [Bool.or_assoc]
  congr 1
section AnsM
variable {P : Nat → Bool}
theorem ak_hit {N : Nat} {p0 : Int32} (hN : N < 4096) (h : ∀ z, z < N → (P z && decide (nI (cnt P z) = p0)) = false) (hP : P N = true) (hc : nI (cnt P N) = p0) : nI N = akV P p0 := by
  unfold akV
  rw [lst_eq (y := N) (Nat.zero_le _) (by omega) (fun _ => by simp [hP, hc]) (fun z _ hz => h z hz), enc_lt hN]
theorem ak_miss {p0 : Int32} (h : ∀ z, z < 4096 → (P z && decide (nI (cnt P z) = p0)) = false) : -1 = akV P p0 := by
  unfold akV
  rw [lst_eq (y := 4096) (Nat.zero_le _) (by omega) (fun q => absurd q (by decide)) (fun z _ hz => h z hz)]
  rfl
theorem sk_hit {N : Nat} {p0 : Int32} (hN : N < 4096) (h : ∀ z, z < N → (!decide (nI z < p0) && P z) = false) (hP : P N = true) (hc : ¬ nI N < p0) : nI N = skV P p0 := by
  rw [← sk_eq, lst_eq (y := N) (Nat.zero_le _) (by omega) (fun _ => by simp [hP, hc]) (fun z _ hz => h z hz), enc_lt hN]
theorem sk_miss {p0 : Int32} (h : ∀ z, z < 4096 → (!decide (nI z < p0) && P z) = false) : -1 = skV P p0 := by
  rw [← sk_eq, lst_eq (y := 4096) (Nat.zero_le _) (by omega) (fun q => absurd q (by decide)) (fun z _ hz => h z hz)]
  rfl
end AnsM
theorem lt_s9 {N : Nat} {Z : Nat → Prop} (h : ∀ z, z < N → Z z) (hN : Z N) : ∀ z, z < N + 1 → Z z := fun z hz => by
  rcases Nat.lt_or_ge z N with q | q
  · exact h z q
  · have : z = N := by omega
    rw [this]; exact hN
theorem cnt_set {f : Nat → Bool} {x : Nat} (hx : f x = false) : ∀ k, cnt (fun j => f j || decide (x = j)) k = cnt f k + if x < k then 1 else 0
  | 0 => rfl
  | k + 1 => by
    have ih := cnt_set hx k
    have e : cnt (fun j => f j || decide (x = j)) (k + 1) = cnt (fun j => f j || decide (x = j)) k + ((f k || decide (x = k)).toNat) := by
      cases h : (f k || decide (x = k)) with
      | true => rw [cnt_t (f := fun j => f j || decide (x = j)) h]; rfl
      | false => rw [cnt_f (f := fun j => f j || decide (x = j)) h]; rfl
    have e2 : cnt f (k + 1) = cnt f k + (f k).toNat := by
      cases h : f k with
      | true => rw [cnt_t h]; rfl
      | false => rw [cnt_f h]; rfl
    rw [e, e2, ih]
    by_cases hk : x = k
    · subst hk
      simp [hx]
    · by_cases h2 : x < k
      · simp [hk, h2, show x < k + 1 by omega]; omega
      · simp [hk, h2, show ¬ x < k + 1 by omega]
theorem cnt_zero {f : Nat → Bool} : ∀ k, (∀ i, i < k → f i = false) → cnt f k = 0
  | 0, _ => rfl
  | k + 1, h => by rw [cnt_f (h k (by omega))]; exact cnt_zero k (fun i hi => h i (by omega))
/-- a set by its members -/
def pw (f : Nat → Bool) : Nat → Nat
  | 0 => 0
  | k + 1 => if f k = true then pw f k ||| 2 ^ k else pw f k
theorem pw_t {f : Nat → Bool} {k : Nat} (h : f k = true) : pw f (k + 1) = pw f k ||| 2 ^ k := by simp [pw, h]
theorem pw_f {f : Nat → Bool} {k : Nat} (h : f k = false) : pw f (k + 1) = pw f k := by simp [pw, h]
theorem pw_bit (f : Nat → Bool) : ∀ k i, (pw f k).testBit i = (decide (i < k) && f i)
  | 0, i => by simp [pw]
  | k + 1, i => by
    have ih := pw_bit f k i
    cases h : f k with
    | true =>
      rw [pw_t h, Nat.testBit_or, Nat.testBit_two_pow, ih]
      by_cases e : k = i
      · subst e; simp [h]
      · by_cases e2 : i < k
        · simp [e, e2, show i < k + 1 by omega]
        · simp [e, e2, show ¬ i < k + 1 by omega]
    | false =>
      rw [pw_f h, ih]
      by_cases e : k = i
      · subst e; simp [h]
      · by_cases e2 : i < k
        · simp [e2, show i < k + 1 by omega]
        · simp [e2, show ¬ i < k + 1 by omega]
theorem pw_lt (f : Nat → Bool) : ∀ k, pw f k < 2 ^ k
  | 0 => Nat.two_pow_pos 0
  | k + 1 => by
    have ih := pw_lt f k
    have h2 : (2 : Nat) ^ k < 2 ^ (k + 1) := Nat.pow_lt_pow_right (by decide) (by omega)
    cases h : f k with
    | true => rw [pw_t h]; exact Nat.or_lt_two_pow (by omega) h2
    | false => rw [pw_f h]; omega
theorem pw_8 {f : Nat → Bool} {w : Nat} (hw : w < 256) (h : ∀ i, i < 8 → f i = w.testBit i) : pw f 8 = w := by
  refine byte_ext (pw_lt f 8) hw (fun i hi => ?_)
  rw [pw_bit]; simp [hi, h i hi]
def ptB (on : Nat → Nat) (r x : Nat) (p2 : Int32) (y : Nat) : Bool := (decide (p2 = 0) && (on (r * 8 + x)).testBit y) || (decide (p2 = 1) && (on (r * 8 + y)).testBit x)
theorem pt_fin {on bk rl fi se : Nat → Nat} {n r x : Nat} {p2 : Int32} (hI : XI on bk rl fi se n) (h3 : r < 3) (hx : x < 8) : nI (pw (ptB on r x p2) 8) = ptV on bk (nI r) (nI x) p2 := by
  obtain ⟨hon, hbk, -, -, -, -, hco⟩ := hI
  unfold ptV
  have ok : (inR (nI r) 3 && inR (nI x) 8) = true := by
    rw [inR_n (by omega) (by decide), inR_n (by omega) (by decide)]; simp [h3, hx]
  rw [if_pos ok, nI_clamp (by omega), nI_clamp (by omega)]
  by_cases e0 : p2 = 0
  · have e1 : ¬ p2 = 1 := by rw [e0]; decide
    rw [if_pos e0, pw_8 (hon (r * 8 + x)) (fun i hi => by simp [ptB, e0])]
  · rw [if_neg e0]
    by_cases e1 : p2 = 1
    · rw [if_pos e1, pw_8 (hbk (r * 8 + x)) (fun i hi => by simp [ptB, e1, hco r i x h3 hi hx])]
    · rw [if_neg e1, pw_8 (w := 0) (by decide) (fun i hi => by simp [ptB, e0, e1])]
      rfl
theorem pt_none {on bk : Nat → Nat} {p0 p1 p2 : Int32} (h : (inR p0 3 && inR p1 8) = false) : nI 0 = ptV on bk p0 p1 p2 := by
  unfold ptV; rw [h]; rfl
theorem pset_bit {P : Nat → Bool} {v w N j : Nat} (h : P N = true) : (pset P v w (N + 1)).testBit j = ((pset P v w N).testBit j || decide (plc v w N = j)) := by
  rw [pset_t h, Nat.testBit_or, Nat.testBit_two_pow]
end
section
set_option maxRecDepth 100000
section Methods
variable {p : Program} {l : Launch} {e : Env} {R : Room} {s : State} {m : MethodId} {args : Array Value} {below : List Frame} {meth : Method} {c : Code} {H H0 : Heap} {locs : List Loc} {cells slots : Nat} {Q : State → Prop} {cc : ByteArray} {pc nL : Nat} {ls : Array Slot} {rest : List Value} {own : String}
variable {D : va_G} {a b : Nat → Nat} {cS cB cI cZ : ClassId} {on bk rl fi se th le : Nat → Nat} {n : Nat} {sn : Nat → Bool}
theorem mM_relation (l : Launch) (hP : va_P D vwCl (mw b cI cZ on rl fi se n sn) H) (p0 : Int32)  : Met l yX1_relation (ws_ yX1_relation cX1_relation 2 (some .boolean)) (rmK 0) (va_Pc [.ref (b 0), .int p0] (fun U => U.heap = H ∧ va_K D vwCl (tM cI cZ) U)) (QcRead ((bI (inR p0 3)))) 0 0 (fun _ => False) := by
  refine anyMet (by decide) (Nat.le_of_ble_eq_true rfl) (fun p e s m below meth c S hr hlk hin hH hK ls hl => ?_)
  have S : CallFix p m c cX1_relation 2 s _ lw_all RX1 := S
  have hl : lv_has ls 2 [(0, .ref (b 0)), (1, .int p0)] := hl
  refine lv_iload_n S.1 S.2.1 dX1_relation_0 rfl (lv_at hl 1 rfl) ?_
  refine lv_if_lt (tgt := 13) S.1 S.2.1 dX1_relation_1 (by decide) (fun h1 => ?_) (fun h1 => ?_)
  · refine lv_iconst (v := (bI false)) S.1 S.2.1 dX1_relation_13 (by decide) ?_
    exact r_bool S hr hlk hH (inR_neg h1).symm dX1_relation_14
  · refine lv_iload_n S.1 S.2.1 dX1_relation_4 rfl (lv_at hl 1 rfl) ?_
    refine lv_iconst (v := (nI 2)) S.1 S.2.1 dX1_relation_5 (by decide) ?_
    refine lv_icmp_gt (tgt := 13) S.1 S.2.1 dX1_relation_6 (by decide) (fun h2 => ?_) (fun h2 => ?_)
    · refine lv_iconst (v := (bI false)) S.1 S.2.1 dX1_relation_13 (by decide) ?_
      exact r_bool S hr hlk hH (inR_big ((nm_lt1 (by decide)).mp h2)).symm dX1_relation_14
    · refine lv_iconst (v := (bI true)) S.1 S.2.1 dX1_relation_9 (by decide) ?_
      refine lv_goto (tgt := 14) S.1 S.2.1 dX1_relation_10 (by decide) ?_
      exact r_bool S hr hlk hH (inR_in h1 (fun h9 => h2 ((nm_lt1 (by decide)).mpr h9))).symm dX1_relation_14
theorem kM_relation (S : CallFix p m c cc nL s args lw_all RX1) (hK : va_K D vwCl (tM cI cZ) s) (hP : va_P D vwCl (mw b cI cZ on rl fi se n sn) H) {p0 : Int32}  (hsz : ls.size = nL) (hdg : decode cc pc = .ok (.invokevirtual 26, 3)) (kk : W p l e R s m args below meth c H locs cells slots Q (F0 m (pc + 3) ls (.int (bI (inR p0 3)) :: rest))) (hR : (rmK 0).frames + 1 ≤ R.frames ∧ 8 + (2 + 11) + (rmK 0).locals ≤ R.locals := by decide) (hW : (rest.map fun v => v.category).sum ≤ 8 := by exact Nat.le_of_ble_eq_true rfl) (hf : cells ≤ R.cells ∧ slots ≤ R.slots := by first | exact ⟨Nat.zero_le _, Nat.zero_le _⟩ | decide) : W p l e R s m args below meth c H locs cells slots Q (F0 m pc ls (.int p0 :: .ref (b 0) :: rest)) :=
  ro_V S hK hK hP (ci := 1) rfl rfl (mM_relation l hP p0) (cwV 1 S.2.2.2.2 (lw_V q194 q196 qs9 q17 q197) rfl rfl rfl (by decide +kernel) hR) rfl hsz rfl hW hdg hf kk
theorem mM_thing (l : Launch) (hP : va_P D vwCl (mw b cI cZ on rl fi se n sn) H) (p0 : Int32)  : Met l yX1_thing (ws_ yX1_thing cX1_thing 2 (some .boolean)) (rmK 0) (va_Pc [.ref (b 0), .int p0] (fun U => U.heap = H ∧ va_K D vwCl (tM cI cZ) U)) (QcRead ((bI (inR p0 8)))) 0 0 (fun _ => False) := by
  refine anyMet (by decide) (Nat.le_of_ble_eq_true rfl) (fun p e s m below meth c S hr hlk hin hH hK ls hl => ?_)
  have S : CallFix p m c cX1_thing 2 s _ lw_all RX1 := S
  have hl : lv_has ls 2 [(0, .ref (b 0)), (1, .int p0)] := hl
  refine lv_iload_n S.1 S.2.1 dX1_thing_0 rfl (lv_at hl 1 rfl) ?_
  refine lv_if_lt (tgt := 14) S.1 S.2.1 dX1_thing_1 (by decide) (fun h1 => ?_) (fun h1 => ?_)
  · refine lv_iconst (v := (bI false)) S.1 S.2.1 dX1_thing_14 (by decide) ?_
    exact r_bool S hr hlk hH (inR_neg h1).symm dX1_thing_15
  · refine lv_iload_n S.1 S.2.1 dX1_thing_4 rfl (lv_at hl 1 rfl) ?_
    refine lv_bipush (v := (nI 7)) S.1 S.2.1 dX1_thing_5 (by decide) ?_
    refine lv_icmp_gt (tgt := 14) S.1 S.2.1 dX1_thing_7 (by decide) (fun h2 => ?_) (fun h2 => ?_)
    · refine lv_iconst (v := (bI false)) S.1 S.2.1 dX1_thing_14 (by decide) ?_
      exact r_bool S hr hlk hH (inR_big ((nm_lt1 (by decide)).mp h2)).symm dX1_thing_15
    · refine lv_iconst (v := (bI true)) S.1 S.2.1 dX1_thing_10 (by decide) ?_
      refine lv_goto (tgt := 15) S.1 S.2.1 dX1_thing_11 (by decide) ?_
      exact r_bool S hr hlk hH (inR_in h1 (fun h9 => h2 ((nm_lt1 (by decide)).mpr h9))).symm dX1_thing_15
theorem kM_thing (S : CallFix p m c cc nL s args lw_all RX1) (hK : va_K D vwCl (tM cI cZ) s) (hP : va_P D vwCl (mw b cI cZ on rl fi se n sn) H) {p0 : Int32}  (hsz : ls.size = nL) (hdg : decode cc pc = .ok (.invokevirtual 30, 3)) (kk : W p l e R s m args below meth c H locs cells slots Q (F0 m (pc + 3) ls (.int (bI (inR p0 8)) :: rest))) (hR : (rmK 0).frames + 1 ≤ R.frames ∧ 8 + (2 + 11) + (rmK 0).locals ≤ R.locals := by decide) (hW : (rest.map fun v => v.category).sum ≤ 8 := by exact Nat.le_of_ble_eq_true rfl) (hf : cells ≤ R.cells ∧ slots ≤ R.slots := by first | exact ⟨Nat.zero_le _, Nat.zero_le _⟩ | decide) : W p l e R s m args below meth c H locs cells slots Q (F0 m pc ls (.int p0 :: .ref (b 0) :: rest)) :=
  ro_V S hK hK hP (ci := 1) rfl rfl (mM_thing l hP p0) (cwV 1 S.2.2.2.2 (lw_V q198 q200 qs10 q17 q201) rfl rfl rfl (by decide +kernel) hR) rfl hsz rfl hW hdg hf kk
theorem mM_variable (l : Launch) (hP : va_P D vwCl (mw b cI cZ on rl fi se n sn) H) (p0 : Int32)  : Met l yX1_variable (ws_ yX1_variable cX1_variable 2 (some .boolean)) (rmK 0) (va_Pc [.ref (b 0), .int p0] (fun U => U.heap = H ∧ va_K D vwCl (tM cI cZ) U)) (QcRead ((bI (inR p0 4)))) 0 0 (fun _ => False) := by
  refine anyMet (by decide) (Nat.le_of_ble_eq_true rfl) (fun p e s m below meth c S hr hlk hin hH hK ls hl => ?_)
  have S : CallFix p m c cX1_variable 2 s _ lw_all RX1 := S
  have hl : lv_has ls 2 [(0, .ref (b 0)), (1, .int p0)] := hl
  refine lv_iload_n S.1 S.2.1 dX1_variable_0 rfl (lv_at hl 1 rfl) ?_
  refine lv_if_lt (tgt := 13) S.1 S.2.1 dX1_variable_1 (by decide) (fun h1 => ?_) (fun h1 => ?_)
  · refine lv_iconst (v := (bI false)) S.1 S.2.1 dX1_variable_13 (by decide) ?_
    exact r_bool S hr hlk hH (inR_neg h1).symm dX1_variable_14
  · refine lv_iload_n S.1 S.2.1 dX1_variable_4 rfl (lv_at hl 1 rfl) ?_
    refine lv_iconst (v := (nI 3)) S.1 S.2.1 dX1_variable_5 (by decide) ?_
    refine lv_icmp_gt (tgt := 13) S.1 S.2.1 dX1_variable_6 (by decide) (fun h2 => ?_) (fun h2 => ?_)
    · refine lv_iconst (v := (bI false)) S.1 S.2.1 dX1_variable_13 (by decide) ?_
      exact r_bool S hr hlk hH (inR_big ((nm_lt1 (by decide)).mp h2)).symm dX1_variable_14
    · refine lv_iconst (v := (bI true)) S.1 S.2.1 dX1_variable_9 (by decide) ?_
      refine lv_goto (tgt := 14) S.1 S.2.1 dX1_variable_10 (by decide) ?_
      exact r_bool S hr hlk hH (inR_in h1 (fun h9 => h2 ((nm_lt1 (by decide)).mpr h9))).symm dX1_variable_14
theorem kM_variable (S : CallFix p m c cc nL s args lw_all RX1) (hK : va_K D vwCl (tM cI cZ) s) (hP : va_P D vwCl (mw b cI cZ on rl fi se n sn) H) {p0 : Int32}  (hsz : ls.size = nL) (hdg : decode cc pc = .ok (.invokevirtual 37, 3)) (kk : W p l e R s m args below meth c H locs cells slots Q (F0 m (pc + 3) ls (.int (bI (inR p0 4)) :: rest))) (hR : (rmK 0).frames + 1 ≤ R.frames ∧ 8 + (2 + 11) + (rmK 0).locals ≤ R.locals := by decide) (hW : (rest.map fun v => v.category).sum ≤ 8 := by exact Nat.le_of_ble_eq_true rfl) (hf : cells ≤ R.cells ∧ slots ≤ R.slots := by first | exact ⟨Nat.zero_le _, Nat.zero_le _⟩ | decide) : W p l e R s m args below meth c H locs cells slots Q (F0 m pc ls (.int p0 :: .ref (b 0) :: rest)) :=
  ro_V S hK hK hP (ci := 1) rfl rfl (mM_variable l hP p0) (cwV 1 S.2.2.2.2 (lw_V q214 q216 qs12 q17 q217) rfl rfl rfl (by decide +kernel) hR) rfl hsz rfl hW hdg hf kk
theorem mM_in (l : Launch) (hP : va_P D vwCl (mw b cI cZ on rl fi se n sn) H) (r : Nat) (x : Nat) (y : Nat) (hI : XI on bk rl fi se n) (h3 : r < 3) (hx : x < 8) (hy : y < 8) : Met l yX1_in (ws_ yX1_in cX1_in 4 (some .boolean)) (rmK 0) (va_Pc [.ref (b 0), .int (nI r), .int (nI x), .int (nI y)] (fun U => U.heap = H ∧ va_K D vwCl (tM cI cZ) U)) (QcRead ((bI ((on (r * 8 + x)).testBit y)))) 0 0 (fun _ => False) := by
  refine anyMet (by decide) (Nat.le_of_ble_eq_true rfl) (fun p e s m below meth c S hr hlk hin hH hK ls hl => ?_)
  have S : CallFix p m c cX1_in 4 s _ lw_all RX1 := S
  have hl : lv_has ls 4 [(0, .ref (b 0)), (1, .int (nI r)), (2, .int (nI x)), (3, .int (nI y))] := hl
  have c1 := hI.1 (r * 8 + x)
  refine lv_aload_n S.1 S.2.1 dX1_in_0 rfl (lv_at hl 0 rfl) ?_
  refine gM_on S hK hP dX1_in_1 ?_
  refine lv_bipush (v := (nI 8)) S.1 S.2.1 dX1_in_4 (by decide) ?_
  refine lv_iload_n S.1 S.2.1 dX1_in_6 rfl (lv_at hl 1 rfl) ?_
  refine n_imul S dX1_in_7 ?_
  refine n_top (y := (nI (r * 8))) (by rw [Nat.mul_comm]) ?_
  refine lv_iload_n S.1 S.2.1 dX1_in_8 rfl (lv_at hl 2 rfl) ?_
  refine n_iadd S dX1_in_9 ?_
  refine lM_on S hK hP (by omega) dX1_in_10 ?_
  refine lv_iload_n S.1 S.2.1 dX1_in_11 rfl (lv_at hl 3 rfl) ?_
  refine n_ishr S (by omega) (by omega) dX1_in_12 ?_
  refine lv_iconst (v := (nI 1)) S.1 S.2.1 dX1_in_13 (by decide) ?_
  refine n_iand1 S (Nat.lt_of_le_of_lt (Nat.div_le_self _ _) (by omega)) dX1_in_14 ?_
  refine lv_iconst (v := (nI 1)) S.1 S.2.1 dX1_in_15 (by decide) ?_
  refine n_ne (tgt := 23) S dX1_in_16 (by decide) (fun h1 => ?_) (fun h1 => ?_) (by omega) (by decide)
  · refine lv_iconst (v := (bI false)) S.1 S.2.1 dX1_in_23 (by decide) ?_
    exact r_bool S hr hlk hH (by rw [Nat.testBit_eq_decide_div_mod_eq]; simp [h1]) dX1_in_24
  · refine lv_iconst (v := (bI true)) S.1 S.2.1 dX1_in_19 (by decide) ?_
    refine lv_goto (tgt := 24) S.1 S.2.1 dX1_in_20 (by decide) ?_
    exact r_bool S hr hlk hH (by rw [Nat.testBit_eq_decide_div_mod_eq]; simp [h1]) dX1_in_24
theorem kM_in (S : CallFix p m c cc nL s args lw_all RX1) (hK : va_K D vwCl (tM cI cZ) s) (hP : va_P D vwCl (mw b cI cZ on rl fi se n sn) H) {r : Nat} {x : Nat} {y : Nat} (hI : XI on bk rl fi se n) (h3 : r < 3) (hx : x < 8) (hy : y < 8) (hsz : ls.size = nL) (hdg : decode cc pc = .ok (.invokevirtual 33, 3)) (kk : W p l e R s m args below meth c H locs cells slots Q (F0 m (pc + 3) ls (.int (bI ((on (r * 8 + x)).testBit y)) :: rest))) (hR : (rmK 0).frames + 1 ≤ R.frames ∧ 8 + (4 + 11) + (rmK 0).locals ≤ R.locals := by decide) (hW : (rest.map fun v => v.category).sum ≤ 8 := by exact Nat.le_of_ble_eq_true rfl) (hf : cells ≤ R.cells ∧ slots ≤ R.slots := by first | exact ⟨Nat.zero_le _, Nat.zero_le _⟩ | decide) : W p l e R s m args below meth c H locs cells slots Q (F0 m pc ls (.int (nI y) :: .int (nI x) :: .int (nI r) :: .ref (b 0) :: rest)) :=
  ro_V S hK hK hP (ci := 1) rfl rfl (mM_in l hP r x y hI h3 hx hy) (cwV 3 S.2.2.2.2 (lw_V q206 q208 qs11 q17 q209) rfl rfl rfl (by decide +kernel) hR) rfl hsz rfl hW hdg hf kk
theorem mM_pair (l : Launch) (hP : va_P D vwCl (mw b cI cZ on rl fi se n sn) H) (hA : xAp b 6) (p0 : Int32) (p1 : Int32) (p2 : Int32) (f : Bool) (hI : XI on bk rl fi se n) : Met l yX1_pair (ws_ yX1_pair cX1_pair 5 (some .boolean)) (rmK 1) (va_Pc [.ref (b 0), .int p0, .int p1, .int p2, .int (bI f)] (fun U => U.heap = H ∧ va_K D vwCl (tM cI cZ) U)) (MQ_ D b cI cZ (some (.int (bI (prOk p0 p1 p2)))) (prOn on p0 p1 p2 f) rl fi se n) 0 0 (xA b 6) := by
  refine anyMet (by decide) (Nat.le_of_ble_eq_true rfl) (fun p e s m below meth c S hr hlk hin hH hK ls hl => ?_)
  have S : CallFix p m c cX1_pair 5 s _ lw_all RX1 := S
  have hl : lv_has ls 5 [(0, .ref (b 0)), (1, .int p0), (2, .int p1), (3, .int p2), (4, .int (bI f))] := hl
  have hS : va_S (xA b 6) s.heap H [] := by rw [hH]; exact va_S.rf
  have hI0 := hI
  refine lv_aload_n S.1 S.2.1 dX1_pair_0 rfl (lv_at hl 0 rfl) ?_
  refine lv_iload_n S.1 S.2.1 dX1_pair_1 rfl (lv_at hl 1 rfl) ?_
  refine kM_relation S hK hP (p0 := p0) hl.1 dX1_pair_2 ?_
  refine z_eq (tgt := 24) S dX1_pair_5 (by decide) (fun h1 => ?_) (fun h1 => ?_)
  · have ok : prOk p0 p1 p2 = false := by simp [prOk, h1]
    rw [prOn_f ok]
    refine lv_iconst (v := (bI false)) S.1 S.2.1 dX1_pair_24 (by decide) ?_
    exact mr_bool S hr hlk hP hS ok.symm dX1_pair_25
  · refine lv_aload_n S.1 S.2.1 dX1_pair_8 rfl (lv_at hl 0 rfl) ?_
    refine lv_iload_n S.1 S.2.1 dX1_pair_9 rfl (lv_at hl 2 rfl) ?_
    refine kM_thing S hK hP (p0 := p1) hl.1 dX1_pair_10 ?_
    refine z_eq (tgt := 24) S dX1_pair_13 (by decide) (fun h2 => ?_) (fun h2 => ?_)
    · have ok : prOk p0 p1 p2 = false := by simp [prOk, h1, h2]
      rw [prOn_f ok]
      refine lv_iconst (v := (bI false)) S.1 S.2.1 dX1_pair_24 (by decide) ?_
      exact mr_bool S hr hlk hP hS ok.symm dX1_pair_25
    · refine lv_aload_n S.1 S.2.1 dX1_pair_16 rfl (lv_at hl 0 rfl) ?_
      refine lv_iload_n S.1 S.2.1 dX1_pair_17 rfl (lv_at hl 3 rfl) ?_
      refine kM_thing S hK hP (p0 := p2) hl.1 dX1_pair_18 ?_
      refine z_ne (tgt := 26) S dX1_pair_21 (by decide) (fun h3 => ?_) (fun h3 => ?_)
      · obtain ⟨r, e1, rfl⟩ := inR_t (by decide) h1
        obtain ⟨x, e2, rfl⟩ := inR_t (by decide) h2
        obtain ⟨y, e3, rfl⟩ := inR_t (by decide) h3
        rw [prOn_n e1 e2 e3]
        have c1 := hI.1 (r * 8 + x)
        refine lv_aload_n S.1 S.2.1 dX1_pair_26 rfl (lv_at hl 0 rfl) ?_
        refine gM_on S hK hP dX1_pair_27 ?_
        refine lv_bipush (v := (nI 8)) S.1 S.2.1 dX1_pair_30 (by decide) ?_
        refine lv_iload_n S.1 S.2.1 dX1_pair_32 rfl (lv_at hl 1 rfl) ?_
        refine n_imul S dX1_pair_33 ?_
        refine n_top (y := (nI (r * 8))) (by rw [Nat.mul_comm]) ?_
        refine lv_iload_n S.1 S.2.1 dX1_pair_34 rfl (lv_at hl 2 rfl) ?_
        refine n_iadd S dX1_pair_35 ?_
        refine lv_iload S.1 S.2.1 dX1_pair_36 (lv_at hl 4 rfl) ?_
        refine z_eq (tgt := 59) S dX1_pair_38 (by decide) (fun h4 => ?_) (fun h4 => ?_)
        · subst h4
          refine lv_aload_n S.1 S.2.1 dX1_pair_59 rfl (lv_at hl 0 rfl) ?_
          refine gM_on S hK hP dX1_pair_60 ?_
          refine lv_bipush (v := (nI 8)) S.1 S.2.1 dX1_pair_63 (by decide) ?_
          refine lv_iload_n S.1 S.2.1 dX1_pair_65 rfl (lv_at hl 1 rfl) ?_
          refine n_imul S dX1_pair_66 ?_
          refine n_top (y := (nI (r * 8))) (by rw [Nat.mul_comm]) ?_
          refine lv_iload_n S.1 S.2.1 dX1_pair_67 rfl (lv_at hl 2 rfl) ?_
          refine n_iadd S dX1_pair_68 ?_
          refine lM_on S hK hP (by omega) dX1_pair_69 ?_
          refine lv_iconst (v := (nI 1)) S.1 S.2.1 dX1_pair_70 (by decide) ?_
          refine lv_iload_n S.1 S.2.1 dX1_pair_71 rfl (lv_at hl 3 rfl) ?_
          refine n_ishl1 S (by omega) dX1_pair_72 ?_
          refine lv_iconst (v := (-1)) S.1 S.2.1 dX1_pair_73 (by decide) ?_
          refine lv_ixor S.1 S.2.1 dX1_pair_74 ?_
          refine lv_iand S.1 S.2.1 dX1_pair_75 ?_
          refine n_top (y := (nI (clr (on ((r * 8) + x)) y))) (nm_clr _ (by omega) _ c1) ?_
          refine sM_on S hK hP hA hS (by omega) dX1_pair_76 (fun H locs hP hS => ?_)
          refine lv_iconst (v := (bI true)) S.1 S.2.1 dX1_pair_77 (by decide) ?_
          exact mr_bool S hr hlk hP hS (prOk_n e1 e2 e3).symm dX1_pair_78
        · subst h4
          refine lv_aload_n S.1 S.2.1 dX1_pair_41 rfl (lv_at hl 0 rfl) ?_
          refine gM_on S hK hP dX1_pair_42 ?_
          refine lv_bipush (v := (nI 8)) S.1 S.2.1 dX1_pair_45 (by decide) ?_
          refine lv_iload_n S.1 S.2.1 dX1_pair_47 rfl (lv_at hl 1 rfl) ?_
          refine n_imul S dX1_pair_48 ?_
          refine n_top (y := (nI (r * 8))) (by rw [Nat.mul_comm]) ?_
          refine lv_iload_n S.1 S.2.1 dX1_pair_49 rfl (lv_at hl 2 rfl) ?_
          refine n_iadd S dX1_pair_50 ?_
          refine lM_on S hK hP (by omega) dX1_pair_51 ?_
          refine lv_iconst (v := (nI 1)) S.1 S.2.1 dX1_pair_52 (by decide) ?_
          refine lv_iload_n S.1 S.2.1 dX1_pair_53 rfl (lv_at hl 3 rfl) ?_
          refine n_ishl1 S (by omega) dX1_pair_54 ?_
          refine n_ior S dX1_pair_55 ?_
          refine n_top (y := (nI (setb (on (r * 8 + x)) y))) rfl ?_
          refine lv_goto (tgt := 76) S.1 S.2.1 dX1_pair_56 (by decide) ?_
          refine sM_on S hK hP hA hS (by omega) dX1_pair_76 (fun H locs hP hS => ?_)
          refine lv_iconst (v := (bI true)) S.1 S.2.1 dX1_pair_77 (by decide) ?_
          exact mr_bool S hr hlk hP hS (prOk_n e1 e2 e3).symm dX1_pair_78
      · have ok : prOk p0 p1 p2 = false := by simp [prOk, h1, h2, h3]
        rw [prOn_f ok]
        refine lv_iconst (v := (bI false)) S.1 S.2.1 dX1_pair_24 (by decide) ?_
        exact mr_bool S hr hlk hP hS ok.symm dX1_pair_25
theorem kM_pair {A0 : Nat → Prop} (S : CallFix p m c cc nL s args lw_all RX1) (hK : va_K D vwCl (tM cI cZ) s) (hP : va_P D vwCl (mw b cI cZ on rl fi se n sn) H) (hA : xAp b 6) {p0 : Int32} {p1 : Int32} {p2 : Int32} {f : Bool} (hI : XI on bk rl fi se n) (hS : va_S A0 H0 H locs) (hA0 : ∀ q, xA b 6 q → A0 q) (hsz : ls.size = nL) (hdg : decode cc pc = .ok (.invokevirtual 55, 3)) (kk : ∀ (H1 : Heap) (locs1 : List Loc) (sn' : Nat → Bool), va_P D vwCl (mw b cI cZ (prOn on p0 p1 p2 f) rl fi se n sn') H1 → (∀ q : Nat, q < H.size → ¬ xA b 6 q → H1[q]? = H[q]?) → va_S A0 H0 H1 locs1 → W p l e R s m args below meth c H1 locs1 cells slots Q (F0 m (pc + 3) ls (.int (bI (prOk p0 p1 p2)) :: rest))) (hR : (rmK 1).frames + 1 ≤ R.frames ∧ 8 + (5 + 11) + (rmK 1).locals ≤ R.locals := by decide) (hW : (rest.map fun v => v.category).sum ≤ 8 := by exact Nat.le_of_ble_eq_true rfl) (hf : cells ≤ R.cells ∧ slots ≤ R.slots := by first | exact ⟨Nat.zero_le _, Nat.zero_le _⟩ | decide) : W p l e R s m args below meth c H locs cells slots Q (F0 m pc ls (.int (bI f) :: .int p2 :: .int p1 :: .int p0 :: .ref (b 0) :: rest)) :=
  wr_V (v := some (.int (bI (prOk p0 p1 p2)))) (PP := fun G => ∃ sn, va_P D vwCl (mw b cI cZ (prOn on p0 p1 p2 f) rl fi se n sn) G) S hK hK hP (ci := 1) rfl rfl (mM_pair l hP hA p0 p1 p2 f hI) (cwV 4 S.2.2.2.2 (lw_V q263 q191 q192 q17 q193) rfl rfl rfl (by decide +kernel) hR) rfl hsz rfl hW hdg hf hS hA0 (fun H1 locs1 h9 hk hS1 => by obtain ⟨sn', hP'⟩ := h9; exact kk H1 locs1 sn' hP' hk hS1)
theorem mM_size (l : Launch) (hP : va_P D vwCl (mw b cI cZ on rl fi se n sn) H) (p0 : Int32) (hI : XI on bk rl fi se n) : Met l yX1_size (ws_ yX1_size cX1_size 4 (some .int)) (rmK 1) (va_Pc [.ref (b 0), .int p0] (fun U => U.heap = H ∧ va_K D vwCl (tM cI cZ) U)) (QcRead ((sizeV on p0))) 0 0 (fun _ => False) := by
  refine anyMet (by decide) (Nat.le_of_ble_eq_true rfl) (fun p e s m below meth c S hr hlk hin hH hK ls hl => ?_)
  have S : CallFix p m c cX1_size 4 s _ lw_all RX1 := S
  have hl : lv_has ls 4 [(0, .ref (b 0)), (1, .int p0)] := hl
  rcases bcase (inR p0 3) with h0 | h0
  · refine lv_iconst (v := (nI 0)) S.1 S.2.1 dX1_size_0 (by decide) ?_
    refine lv_istore_n (lv' := [(2, .int (nI 0)), (0, .ref (b 0)), (1, .int p0)]) S.1 S.2.1 dX1_size_1 rfl hl (by decide) rfl (fun ls hl => ?_)
    refine lv_iconst (v := (nI 0)) S.1 S.2.1 dX1_size_2 (by decide) ?_
    refine lv_istore_n (lv' := [(3, .int (nI 0)), (2, .int (nI 0)), (0, .ref (b 0)), (1, .int p0)]) S.1 S.2.1 dX1_size_3 rfl hl (by decide) rfl (fun ls hl => ?_)
    refine lv_iload_n S.1 S.2.1 dX1_size_4 rfl (lv_at hl 0 rfl) ?_
    refine lv_bipush (v := (nI 64)) S.1 S.2.1 dX1_size_5 (by decide) ?_
    refine n_ge (tgt := 48) S dX1_size_7 (by decide) (fun h1 => ?_) (fun h1 => ?_)
    · exact absurd h1 (by decide)
    · refine lv_aload_n S.1 S.2.1 dX1_size_10 rfl (lv_at hl 2 rfl) ?_
      refine lv_iload_n S.1 S.2.1 dX1_size_11 rfl (lv_at hl 3 rfl) ?_
      refine kM_relation S hK hP (p0 := p0) hl.1 dX1_size_12 ?_
      refine z_eq (tgt := 48) S dX1_size_15 (by decide) (fun h2 => ?_) (fun h2 => ?_)
      · refine lv_aload_n S.1 S.2.1 dX1_size_48 rfl (lv_at hl 2 rfl) ?_
        refine lv_iload_n S.1 S.2.1 dX1_size_49 rfl (lv_at hl 3 rfl) ?_
        refine kM_relation S hK hP (p0 := p0) hl.1 dX1_size_50 ?_
        refine z_eq (tgt := 60) S dX1_size_53 (by decide) (fun h3 => ?_) (fun h3 => ?_)
        · refine lv_iconst (v := (-1)) S.1 S.2.1 dX1_size_60 (by decide) ?_
          exact r_int S hr hlk hH (by simp [sizeV, h0]) dX1_size_61
        · rw [h0] at h3; cases h3
      · rw [h0] at h2; cases h2
  · obtain ⟨r, e1, rfl⟩ := inR_t (by decide) h0
    refine lv_iconst (v := (nI 0)) S.1 S.2.1 dX1_size_0 (by decide) ?_
    refine lv_istore_n (lv' := [(2, .int (nI 0)), (0, .ref (b 0)), (1, .int (nI r))]) S.1 S.2.1 dX1_size_1 rfl hl (by decide) rfl (fun ls hl => ?_)
    refine lv_iconst (v := (nI 0)) S.1 S.2.1 dX1_size_2 (by decide) ?_
    refine lv_istore_n (lv' := [(3, .int (nI 0)), (2, .int (nI 0)), (0, .ref (b 0)), (1, .int (nI r))]) S.1 S.2.1 dX1_size_3 rfl hl (by decide) rfl (fun ls hl => ?_)
    refine loopR (α := Nat) (fun k ls => lv_has ls 4 [(3, .int (nI k)), (2, .int (nI (cnt (fun k => (on (r * 8 + k / 8)).testBit (k % 8)) k))), (0, .ref (b 0)), (1, .int (nI r))] ∧ k ≤ 64) (fun k => 64 - k) (fun k ls hJ ih => ?_) 0 ls ⟨lv_sub hl [0, 1, 2, 3] rfl, by decide⟩
    obtain ⟨hl, hk⟩ := hJ
    refine lv_iload_n S.1 S.2.1 dX1_size_4 rfl (lv_at hl 0 rfl) ?_
    refine lv_bipush (v := (nI 64)) S.1 S.2.1 dX1_size_5 (by decide) ?_
    refine n_ge (tgt := 48) S dX1_size_7 (by decide) (fun h1 => ?_) (fun h1 => ?_)
    · have e9 : k = 64 := by omega
      subst e9
      refine lv_aload_n S.1 S.2.1 dX1_size_48 rfl (lv_at hl 2 rfl) ?_
      refine lv_iload_n S.1 S.2.1 dX1_size_49 rfl (lv_at hl 3 rfl) ?_
      refine kM_relation S hK hP (p0 := nI r) hl.1 dX1_size_50 ?_
      refine z_eq (tgt := 60) S dX1_size_53 (by decide) (fun h3 => ?_) (fun h3 => ?_)
      · rw [h0] at h3; cases h3
      · refine lv_iload_n S.1 S.2.1 dX1_size_56 rfl (lv_at hl 1 rfl) ?_
        refine lv_goto (tgt := 61) S.1 S.2.1 dX1_size_57 (by decide) ?_
        exact r_int S hr hlk hH (by unfold sizeV; rw [if_pos h0, nI_clamp (by omega)]) dX1_size_61
    · refine lv_aload_n S.1 S.2.1 dX1_size_10 rfl (lv_at hl 2 rfl) ?_
      refine lv_iload_n S.1 S.2.1 dX1_size_11 rfl (lv_at hl 3 rfl) ?_
      refine kM_relation S hK hP (p0 := nI r) hl.1 dX1_size_12 ?_
      refine z_eq (tgt := 48) S dX1_size_15 (by decide) (fun h2 => ?_) (fun h2 => ?_)
      · rw [h0] at h2; cases h2
      · refine lv_aload_n S.1 S.2.1 dX1_size_18 rfl (lv_at hl 2 rfl) ?_
        refine lv_iload_n S.1 S.2.1 dX1_size_19 rfl (lv_at hl 3 rfl) ?_
        refine lv_iload_n S.1 S.2.1 dX1_size_20 rfl (lv_at hl 0 rfl) ?_
        refine lv_bipush (v := (nI 8)) S.1 S.2.1 dX1_size_21 (by decide) ?_
        refine n_idiv S (by omega) (by decide) (by decide) dX1_size_23 ?_
        refine lv_iload_n S.1 S.2.1 dX1_size_24 rfl (lv_at hl 0 rfl) ?_
        refine lv_bipush (v := (nI 8)) S.1 S.2.1 dX1_size_25 (by decide) ?_
        refine n_irem S (by omega) (by decide) (by decide) dX1_size_27 ?_
        refine kM_in S hK hP (r := r) (x := k / 8) (y := k % 8) hI e1 (by omega) (by omega) hl.1 dX1_size_28 ?_
        refine z_eq (tgt := 40) S dX1_size_31 (by decide) (fun h4 => ?_) (fun h4 => ?_)
        · refine lv_iload_n S.1 S.2.1 dX1_size_40 rfl (lv_at hl 1 rfl) ?_
          refine lv_istore_n (lv' := [(2, .int (nI (cnt (fun k => (on (r * 8 + k / 8)).testBit (k % 8)) k))), (3, .int (nI k)), (0, .ref (b 0)), (1, .int (nI r))]) S.1 S.2.1 dX1_size_41 rfl hl (by decide) rfl (fun ls hl => ?_)
          refine n_iinc (x := k) (k := 1) (lv' := [(3, .int (nI (k + 1))), (2, .int (nI (cnt (fun k => (on (r * 8 + k / 8)).testBit (k % 8)) k))), (0, .ref (b 0)), (1, .int (nI r))]) S dX1_size_42 hl rfl (by decide) rfl (fun ls hl => ?_)
          refine lv_goto (tgt := 4) S.1 S.2.1 dX1_size_45 (by decide) ?_
          exact ih (k + 1) ls ⟨by rw [cnt_f (f := (fun k => (on (r * 8 + k / 8)).testBit (k % 8))) h4]; exact lv_sub hl [0, 1, 2, 3] rfl, by omega⟩ (by omega)
        · refine lv_iload_n S.1 S.2.1 dX1_size_34 rfl (lv_at hl 1 rfl) ?_
          refine lv_iconst (v := (nI 1)) S.1 S.2.1 dX1_size_35 (by decide) ?_
          refine n_iadd S dX1_size_36 ?_
          refine lv_goto (tgt := 41) S.1 S.2.1 dX1_size_37 (by decide) ?_
          refine lv_istore_n (lv' := [(2, .int (nI ((cnt (fun k => (on (r * 8 + k / 8)).testBit (k % 8)) k) + 1))), (3, .int (nI k)), (0, .ref (b 0)), (1, .int (nI r))]) S.1 S.2.1 dX1_size_41 rfl hl (by decide) rfl (fun ls hl => ?_)
          refine n_iinc (x := k) (k := 1) (lv' := [(3, .int (nI (k + 1))), (2, .int (nI ((cnt (fun k => (on (r * 8 + k / 8)).testBit (k % 8)) k) + 1))), (0, .ref (b 0)), (1, .int (nI r))]) S dX1_size_42 hl rfl (by decide) rfl (fun ls hl => ?_)
          refine lv_goto (tgt := 4) S.1 S.2.1 dX1_size_45 (by decide) ?_
          exact ih (k + 1) ls ⟨by rw [cnt_t (f := (fun k => (on (r * 8 + k / 8)).testBit (k % 8))) h4]; exact lv_sub hl [0, 1, 2, 3] rfl, by omega⟩ (by omega)
theorem mM_atom (l : Launch) (hP : va_P D vwCl (mw b cI cZ on rl fi se n sn) H) (hA : xAp b 6) (p0 : Int32) (p1 : Int32) (p2 : Int32) (hI : XI on bk rl fi se n) : Met l yX1_atom (ws_ yX1_atom cX1_atom 4 (some .int)) (rmK 1) (va_Pc [.ref (b 0), .int p0, .int p1, .int p2] (fun U => U.heap = H ∧ va_K D vwCl (tM cI cZ) U)) (MQ_ D b cI cZ (some (.int (atV n p0 p1 p2))) on (atUp rl n p0 p1 p2 p0) (atUp fi n p0 p1 p2 p1) (atUp se n p0 p1 p2 p2) (atN n p0 p1 p2)) 0 0 (xA b 6) := by
  refine anyMet (by decide) (Nat.le_of_ble_eq_true rfl) (fun p e s m below meth c S hr hlk hin hH hK ls hl => ?_)
  have S : CallFix p m c cX1_atom 4 s _ lw_all RX1 := S
  have hl : lv_has ls 4 [(0, .ref (b 0)), (1, .int p0), (2, .int p1), (3, .int p2)] := hl
  have hS : va_S (xA b 6) s.heap H [] := by rw [hH]; exact va_S.rf
  have hI0 := hI
  have n5 := hI.2.2.2.2.2.1
  refine lv_aload_n S.1 S.2.1 dX1_atom_0 rfl (lv_at hl 0 rfl) ?_
  refine lv_iload_n S.1 S.2.1 dX1_atom_1 rfl (lv_at hl 1 rfl) ?_
  refine kM_relation S hK hP (p0 := p0) hl.1 dX1_atom_2 ?_
  refine z_eq (tgt := 24) S dX1_atom_5 (by decide) (fun h1 => ?_) (fun h1 => ?_)
  · have ok : atOk p0 p1 p2 = false := by simp [atOk, h1]
    simp only [atUp, atN, ok, Bool.false_eq_true, false_and, if_false]
    refine lv_iconst (v := (-1)) S.1 S.2.1 dX1_atom_24 (by decide) ?_
    exact mr_int S hr hlk hP hS (by simp [atV, ok]) dX1_atom_25
  · refine lv_aload_n S.1 S.2.1 dX1_atom_8 rfl (lv_at hl 0 rfl) ?_
    refine lv_iload_n S.1 S.2.1 dX1_atom_9 rfl (lv_at hl 2 rfl) ?_
    refine kM_variable S hK hP (p0 := p1) hl.1 dX1_atom_10 ?_
    refine z_eq (tgt := 24) S dX1_atom_13 (by decide) (fun h2 => ?_) (fun h2 => ?_)
    · have ok : atOk p0 p1 p2 = false := by simp [atOk, h1, h2]
      simp only [atUp, atN, ok, Bool.false_eq_true, false_and, if_false]
      refine lv_iconst (v := (-1)) S.1 S.2.1 dX1_atom_24 (by decide) ?_
      exact mr_int S hr hlk hP hS (by simp [atV, ok]) dX1_atom_25
    · refine lv_aload_n S.1 S.2.1 dX1_atom_16 rfl (lv_at hl 0 rfl) ?_
      refine lv_iload_n S.1 S.2.1 dX1_atom_17 rfl (lv_at hl 3 rfl) ?_
      refine kM_variable S hK hP (p0 := p2) hl.1 dX1_atom_18 ?_
      refine z_ne (tgt := 26) S dX1_atom_21 (by decide) (fun h3 => ?_) (fun h3 => ?_)
      · obtain ⟨r, e1, rfl⟩ := inR_t (by decide) h1
        obtain ⟨x, e2, rfl⟩ := inR_t (by decide) h2
        obtain ⟨y, e3, rfl⟩ := inR_t (by decide) h3
        have ok := atOk_n e1 e2 e3
        refine lv_aload_n S.1 S.2.1 dX1_atom_26 rfl (lv_at hl 0 rfl) ?_
        refine gM_n S hK hP dX1_atom_27 ?_
        refine lv_iconst (v := (nI 5)) S.1 S.2.1 dX1_atom_30 (by decide) ?_
        refine n_lt (tgt := 37) S dX1_atom_31 (by decide) (fun h4 => ?_) (fun h4 => ?_)
        · have h6 : atOk (nI r) (nI x) (nI y) = true ∧ n < 5 := ⟨ok, h4⟩
          simp only [atUp, atN, if_pos h6]
          rw [nI_clamp (n := r) (by omega), nI_clamp (n := x) (by omega), nI_clamp (n := y) (by omega)]
          refine lv_aload_n S.1 S.2.1 dX1_atom_37 rfl (lv_at hl 0 rfl) ?_
          refine gM_rl S hK hP dX1_atom_38 ?_
          refine lv_aload_n S.1 S.2.1 dX1_atom_41 rfl (lv_at hl 0 rfl) ?_
          refine gM_n S hK hP dX1_atom_42 ?_
          refine lv_iload_n S.1 S.2.1 dX1_atom_45 rfl (lv_at hl 1 rfl) ?_
          refine sM_rl S hK hP hA hS (by omega) dX1_atom_46 (fun H locs hP hS => ?_)
          refine lv_aload_n S.1 S.2.1 dX1_atom_47 rfl (lv_at hl 0 rfl) ?_
          refine gM_fi S hK hP dX1_atom_48 ?_
          refine lv_aload_n S.1 S.2.1 dX1_atom_51 rfl (lv_at hl 0 rfl) ?_
          refine gM_n S hK hP dX1_atom_52 ?_
          refine lv_iload_n S.1 S.2.1 dX1_atom_55 rfl (lv_at hl 2 rfl) ?_
          refine sM_fi S hK hP hA hS (by omega) dX1_atom_56 (fun H locs hP hS => ?_)
          refine lv_aload_n S.1 S.2.1 dX1_atom_57 rfl (lv_at hl 0 rfl) ?_
          refine gM_se S hK hP dX1_atom_58 ?_
          refine lv_aload_n S.1 S.2.1 dX1_atom_61 rfl (lv_at hl 0 rfl) ?_
          refine gM_n S hK hP dX1_atom_62 ?_
          refine lv_iload_n S.1 S.2.1 dX1_atom_65 rfl (lv_at hl 3 rfl) ?_
          refine sM_se S hK hP hA hS (by omega) dX1_atom_66 (fun H locs hP hS => ?_)
          refine lv_aload_n S.1 S.2.1 dX1_atom_67 rfl (lv_at hl 0 rfl) ?_
          refine lv_dup S.1 S.2.1 dX1_atom_68 rfl ?_
          refine gM_n S hK hP dX1_atom_69 ?_
          refine lv_iconst (v := (nI 1)) S.1 S.2.1 dX1_atom_72 (by decide) ?_
          refine n_iadd S dX1_atom_73 ?_
          refine sM_n S hK hP hA hS dX1_atom_74 (fun H locs hP hS => ?_)
          refine lv_aload_n S.1 S.2.1 dX1_atom_77 rfl (lv_at hl 0 rfl) ?_
          refine gM_n S hK hP dX1_atom_78 ?_
          exact mr_int S hr hlk hP hS (by simp [atV, ok, h4]) dX1_atom_81
        · have h5 : ¬ n < 5 := by omega
          simp only [atUp, atN, h5, and_false, if_false]
          refine lv_bipush (v := (-2)) S.1 S.2.1 dX1_atom_34 (by decide) ?_
          exact mr_int S hr hlk hP hS (by simp [atV, ok, h5]) dX1_atom_36
      · have ok : atOk p0 p1 p2 = false := by simp [atOk, h1, h2, h3]
        simp only [atUp, atN, ok, Bool.false_eq_true, false_and, if_false]
        refine lv_iconst (v := (-1)) S.1 S.2.1 dX1_atom_24 (by decide) ?_
        exact mr_int S hr hlk hP hS (by simp [atV, ok]) dX1_atom_25
theorem mM_drop (l : Launch) (hP : va_P D vwCl (mw b cI cZ on rl fi se n sn) H) (hA : xAp b 6)  (hI : XI on bk rl fi se n) : Met l yX1_drop (ws_ yX1_drop cX1_drop 1 (some .int)) (rmK 0) (va_Pc [.ref (b 0)] (fun U => U.heap = H ∧ va_K D vwCl (tM cI cZ) U)) (MQ_ D b cI cZ (some (.int (drV n))) on rl fi se (n - 1)) 0 0 (xA b 6) := by
  refine anyMet (by decide) (Nat.le_of_ble_eq_true rfl) (fun p e s m below meth c S hr hlk hin hH hK ls hl => ?_)
  have S : CallFix p m c cX1_drop 1 s _ lw_all RX1 := S
  have hl : lv_has ls 1 [(0, .ref (b 0))] := hl
  have hS : va_S (xA b 6) s.heap H [] := by rw [hH]; exact va_S.rf
  have n5 := hI.2.2.2.2.2.1
  refine lv_aload_n S.1 S.2.1 dX1_drop_0 rfl (lv_at hl 0 rfl) ?_
  refine gM_n S hK hP dX1_drop_1 ?_
  refine n_ifne (tgt := 9) S dX1_drop_4 (by decide) (fun h1 => ?_) (fun h1 => ?_)
  · refine lv_aload_n S.1 S.2.1 dX1_drop_9 rfl (lv_at hl 0 rfl) ?_
    refine lv_dup S.1 S.2.1 dX1_drop_10 rfl ?_
    refine gM_n S hK hP dX1_drop_11 ?_
    refine lv_iconst (v := (nI 1)) S.1 S.2.1 dX1_drop_14 (by decide) ?_
    refine n_isub S (by omega) dX1_drop_15 ?_
    refine sM_n S hK hP hA hS dX1_drop_16 (fun H locs hP hS => ?_)
    refine lv_aload_n S.1 S.2.1 dX1_drop_19 rfl (lv_at hl 0 rfl) ?_
    refine gM_n S hK hP dX1_drop_20 ?_
    exact mr_int S hr hlk hP hS (by unfold drV; rw [if_neg (by omega)]) dX1_drop_23
  · subst h1
    refine lv_iconst (v := (-1)) S.1 S.2.1 dX1_drop_7 (by decide) ?_
    exact mr_int S hr hlk hP hS rfl dX1_drop_8
theorem mM_of (l : Launch) (hP : va_P D vwCl (mw b cI cZ on rl fi se n sn) H) (k : Nat) (d : Nat) (hk : k < 2 ^ 31) (hd : d < 4) : Met l yX1_of (ws_ yX1_of cX1_of 3 (some .int)) (rmK 0) (va_Pc [.ref (b 0), .int (nI k), .int (nI d)] (fun U => U.heap = H ∧ va_K D vwCl (tM cI cZ) U)) (QcRead ((nI (dg k d)))) 0 0 (fun _ => False) := by
  refine anyMet (by decide) (Nat.le_of_ble_eq_true rfl) (fun p e s m below meth c S hr hlk hin hH hK ls hl => ?_)
  have S : CallFix p m c cX1_of 3 s _ lw_all RX1 := S
  have hl : lv_has ls 3 [(0, .ref (b 0)), (1, .int (nI k)), (2, .int (nI d))] := hl
  refine lv_iload_n S.1 S.2.1 dX1_of_0 rfl (lv_at hl 1 rfl) ?_
  refine lv_bipush (v := (nI 9)) S.1 S.2.1 dX1_of_1 (by decide) ?_
  refine lv_iconst (v := (nI 3)) S.1 S.2.1 dX1_of_3 (by decide) ?_
  refine lv_iload_n S.1 S.2.1 dX1_of_4 rfl (lv_at hl 2 rfl) ?_
  refine n_imul S dX1_of_5 ?_
  refine n_isub S (by omega) dX1_of_6 ?_
  refine n_ishr S (by omega) (by omega) dX1_of_7 ?_
  refine lv_bipush (v := (nI 7)) S.1 S.2.1 dX1_of_8 (by decide) ?_
  refine n_iand7 S (Nat.lt_of_le_of_lt (Nat.div_le_self _ _) (by omega)) dX1_of_10 ?_
  exact r_int S hr hlk hH rfl dX1_of_11
theorem kM_of (S : CallFix p m c cc nL s args lw_all RX1) (hK : va_K D vwCl (tM cI cZ) s) (hP : va_P D vwCl (mw b cI cZ on rl fi se n sn) H) {k : Nat} {d : Nat} (hk : k < 2 ^ 31) (hd : d < 4) (hsz : ls.size = nL) (hdg : decode cc pc = .ok (.invokevirtual 44, 3)) (kk : W p l e R s m args below meth c H locs cells slots Q (F0 m (pc + 3) ls (.int (nI (dg k d)) :: rest))) (hR : (rmK 0).frames + 1 ≤ R.frames ∧ 8 + (3 + 11) + (rmK 0).locals ≤ R.locals := by decide) (hW : (rest.map fun v => v.category).sum ≤ 8 := by exact Nat.le_of_ble_eq_true rfl) (hf : cells ≤ R.cells ∧ slots ≤ R.slots := by first | exact ⟨Nat.zero_le _, Nat.zero_le _⟩ | decide) : W p l e R s m args below meth c H locs cells slots Q (F0 m pc ls (.int (nI d) :: .int (nI k) :: .ref (b 0) :: rest)) :=
  ro_V S hK hK hP (ci := 1) rfl rfl (mM_of l hP k d hk hd) (cwV 2 S.2.2.2.2 (lw_V q230 q232 qs14 q17 q233) rfl rfl rfl (by decide +kernel) hR) rfl hsz rfl hW hdg hf kk
theorem mM_isAnswer (l : Launch) (hP : va_P D vwCl (mw b cI cZ on rl fi se n sn) H) (N : Nat) (hI : XI on bk rl fi se n) (hN : N < 4096) : Met l yX1_isAnswer (ws_ yX1_isAnswer cX1_isAnswer 5 (some .boolean)) (rmK 1) (va_Pc [.ref (b 0), .int (nI N)] (fun U => U.heap = H ∧ va_K D vwCl (tM cI cZ) U)) (QcRead ((bI (ansB on rl fi se n N)))) 0 0 (fun _ => False) := by
  refine anyMet (by decide) (Nat.le_of_ble_eq_true rfl) (fun p e s m below meth c S hr hlk hin hH hK ls hl => ?_)
  have S : CallFix p m c cX1_isAnswer 5 s _ lw_all RX1 := S
  have hl : lv_has ls 5 [(0, .ref (b 0)), (1, .int (nI N))] := hl
  have hI0 := hI
  obtain ⟨hon, hbk, hrl, hfi, hse, hn5, hco⟩ := hI
  refine lv_iconst (v := (nI 0)) S.1 S.2.1 dX1_isAnswer_0 (by decide) ?_
  refine lv_istore_n (lv' := [(2, .int (nI 0)), (0, .ref (b 0)), (1, .int (nI N))]) S.1 S.2.1 dX1_isAnswer_1 rfl hl (by decide) rfl (fun ls hl => ?_)
  refine lv_iconst (v := (bI true)) S.1 S.2.1 dX1_isAnswer_2 (by decide) ?_
  refine lv_istore_n (lv' := [(3, .int (bI true)), (2, .int (nI 0)), (0, .ref (b 0)), (1, .int (nI N))]) S.1 S.2.1 dX1_isAnswer_3 rfl hl (by decide) rfl (fun ls hl => ?_)
  refine lv_iconst (v := (nI 0)) S.1 S.2.1 dX1_isAnswer_4 (by decide) ?_
  refine lv_istore (lv' := [(4, .int (nI 0)), (3, .int (bI true)), (2, .int (nI 0)), (0, .ref (b 0)), (1, .int (nI N))]) S.1 S.2.1 dX1_isAnswer_5 hl (by decide) rfl (fun ls hl => ?_)
  refine loopR3 (α := Nat) (β := Nat) (γ := Bool) (fun i u B ls => lv_has ls 5 [(4, .int (nI i)), (3, .int (bI B)), (2, .int (nI u)), (0, .ref (b 0)), (1, .int (nI N))] ∧ i ≤ n ∧ u < 16 ∧ (∀ v, v < 4 → u.testBit v = anyB (usB fi se v) i) ∧ B = allB (atB on rl fi se N) i) (fun i u B => n - i) (fun i u B ls hJ ih => ?_) 0 0 true ls ⟨lv_sub hl [0, 1, 2, 3, 4] rfl, Nat.zero_le _, by decide, fun v _ => by rw [Nat.zero_testBit]; rfl, rfl⟩
  obtain ⟨hl, hi, hu, hus, hB⟩ := hJ
  refine lv_iload S.1 S.2.1 dX1_isAnswer_7 (lv_at hl 0 rfl) ?_
  refine lv_aload_n S.1 S.2.1 dX1_isAnswer_9 rfl (lv_at hl 3 rfl) ?_
  refine gM_n S hK hP dX1_isAnswer_10 ?_
  refine n_ge (tgt := 84) S dX1_isAnswer_13 (by decide) (fun h1 => ?_) (fun h1 => ?_)
  · have e8 : i = n := by omega
    have hB2 : B = allB (atB on rl fi se N) n := by rw [hB, e8]
    have hus2 : B = true → ∀ v, v < 4 → u.testBit v = anyB (usB fi se v) n := fun _ v hv => by rw [hus v hv, e8]
    refine lv_iconst (v := (nI 0)) S.1 S.2.1 dX1_isAnswer_84 (by decide) ?_
    refine lv_istore (lv' := [(4, .int (nI 0)), (3, .int (bI B)), (2, .int (nI u)), (0, .ref (b 0)), (1, .int (nI N))]) S.1 S.2.1 dX1_isAnswer_85 hl (by decide) rfl (fun ls hl => ?_)
    refine loopR2 (α := Nat) (β := Bool) (fun v B ls => lv_has ls 5 [(4, .int (nI v)), (3, .int (bI B)), (2, .int (nI u)), (0, .ref (b 0)), (1, .int (nI N))] ∧ v ≤ 4 ∧ B = (allB (atB on rl fi se N) n && allB (fun v => anyB (usB fi se v) n || dg N v == 0) v)) (fun v B => 4 - v) (fun v C ls hJ ih2 => ?_) 0 B ls ⟨lv_sub hl [0, 1, 2, 3, 4] rfl, by decide, by rw [hB2]; simp [allB]⟩
    obtain ⟨hl, hv, hC⟩ := hJ
    refine lv_iload S.1 S.2.1 dX1_isAnswer_87 (lv_at hl 0 rfl) ?_
    refine lv_iconst (v := (nI 4)) S.1 S.2.1 dX1_isAnswer_89 (by decide) ?_
    refine n_ge (tgt := 129) S dX1_isAnswer_90 (by decide) (fun k1 => ?_) (fun k1 => ?_)
    · have e9 : v = 4 := by omega
      subst e9
      refine lv_iload_n S.1 S.2.1 dX1_isAnswer_129 rfl (lv_at hl 1 rfl) ?_
      exact r_bool S hr hlk hH hC dX1_isAnswer_130
    · refine lv_iload_n S.1 S.2.1 dX1_isAnswer_93 rfl (lv_at hl 1 rfl) ?_
      refine z_eq (tgt := 121) S dX1_isAnswer_94 (by decide) (fun k2 => ?_) (fun k2 => ?_)
      · refine lv_iconst (v := (bI false)) S.1 S.2.1 dX1_isAnswer_121 (by decide) ?_
        refine lv_istore_n (lv' := [(3, .int (bI false)), (4, .int (nI v)), (2, .int (nI u)), (0, .ref (b 0)), (1, .int (nI N))]) S.1 S.2.1 dX1_isAnswer_122 rfl hl (by decide) rfl (fun ls hl => ?_)
        refine n_iinc (x := v) (k := 1) (lv' := [(4, .int (nI (v + 1))), (3, .int (bI false)), (2, .int (nI u)), (0, .ref (b 0)), (1, .int (nI N))]) S dX1_isAnswer_123 hl rfl (by decide) rfl (fun ls hl => ?_)
        refine lv_goto (tgt := 87) S.1 S.2.1 dX1_isAnswer_126 (by decide) ?_
        exact ih2 (v + 1) false ls ⟨lv_sub hl [0, 1, 2, 3, 4] rfl, by omega, by rw [allB, ← Bool.and_assoc, ← hC, k2]; rfl⟩ (by omega)
      · subst k2
        have hBt : B = true := by
          cases hb : B with
          | true => rfl
          | false => rw [← hB2, hb] at hC; cases hC
        have hbit := hus2 hBt v (by omega)
        refine lv_iload_n S.1 S.2.1 dX1_isAnswer_97 rfl (lv_at hl 2 rfl) ?_
        refine lv_iload S.1 S.2.1 dX1_isAnswer_98 (lv_at hl 0 rfl) ?_
        refine n_ishr S (by omega) (by omega) dX1_isAnswer_100 ?_
        refine lv_iconst (v := (nI 1)) S.1 S.2.1 dX1_isAnswer_101 (by decide) ?_
        refine n_iand1 S (Nat.lt_of_le_of_lt (Nat.div_le_self _ _) (by omega)) dX1_isAnswer_102 ?_
        refine lv_iconst (v := (nI 1)) S.1 S.2.1 dX1_isAnswer_103 (by decide) ?_
        refine n_eq (tgt := 117) S dX1_isAnswer_104 (by decide) (fun k3 => ?_) (fun k3 => ?_) (by omega) (by decide)
        · refine lv_iconst (v := (bI true)) S.1 S.2.1 dX1_isAnswer_117 (by decide) ?_
          refine lv_goto (tgt := 122) S.1 S.2.1 dX1_isAnswer_118 (by decide) ?_
          refine lv_istore_n (lv' := [(3, .int (bI true)), (4, .int (nI v)), (2, .int (nI u)), (0, .ref (b 0)), (1, .int (nI N))]) S.1 S.2.1 dX1_isAnswer_122 rfl hl (by decide) rfl (fun ls hl => ?_)
          refine n_iinc (x := v) (k := 1) (lv' := [(4, .int (nI (v + 1))), (3, .int (bI true)), (2, .int (nI u)), (0, .ref (b 0)), (1, .int (nI N))]) S dX1_isAnswer_123 hl rfl (by decide) rfl (fun ls hl => ?_)
          refine lv_goto (tgt := 87) S.1 S.2.1 dX1_isAnswer_126 (by decide) ?_
          exact ih2 (v + 1) true ls ⟨lv_sub hl [0, 1, 2, 3, 4] rfl, by omega, by rw [allB, ← Bool.and_assoc, ← hC, ← hbit, Nat.testBit_eq_decide_div_mod_eq]; simp [k3]⟩ (by omega)
        · refine lv_aload_n S.1 S.2.1 dX1_isAnswer_107 rfl (lv_at hl 3 rfl) ?_
          refine lv_iload_n S.1 S.2.1 dX1_isAnswer_108 rfl (lv_at hl 4 rfl) ?_
          refine lv_iload S.1 S.2.1 dX1_isAnswer_109 (lv_at hl 0 rfl) ?_
          refine kM_of S hK hP (k := N) (d := v) (by omega) (by omega) hl.1 dX1_isAnswer_111 ?_
          have kd := dg_lt N v
          have k5 : u.testBit v = false := by rw [Nat.testBit_eq_decide_div_mod_eq]; simp [k3]
          refine n_ifne (tgt := 121) S dX1_isAnswer_114 (by decide) (fun k4 => ?_) (fun k4 => ?_)
          · refine lv_iconst (v := (bI false)) S.1 S.2.1 dX1_isAnswer_121 (by decide) ?_
            refine lv_istore_n (lv' := [(3, .int (bI false)), (4, .int (nI v)), (2, .int (nI u)), (0, .ref (b 0)), (1, .int (nI N))]) S.1 S.2.1 dX1_isAnswer_122 rfl hl (by decide) rfl (fun ls hl => ?_)
            refine n_iinc (x := v) (k := 1) (lv' := [(4, .int (nI (v + 1))), (3, .int (bI false)), (2, .int (nI u)), (0, .ref (b 0)), (1, .int (nI N))]) S dX1_isAnswer_123 hl rfl (by decide) rfl (fun ls hl => ?_)
            refine lv_goto (tgt := 87) S.1 S.2.1 dX1_isAnswer_126 (by decide) ?_
            exact ih2 (v + 1) false ls ⟨lv_sub hl [0, 1, 2, 3, 4] rfl, by omega, by rw [allB, ← Bool.and_assoc, ← hC, ← hbit, k5]; simp; omega⟩ (by omega)
          · refine lv_iconst (v := (bI true)) S.1 S.2.1 dX1_isAnswer_117 (by decide) ?_
            refine lv_goto (tgt := 122) S.1 S.2.1 dX1_isAnswer_118 (by decide) ?_
            refine lv_istore_n (lv' := [(3, .int (bI true)), (4, .int (nI v)), (2, .int (nI u)), (0, .ref (b 0)), (1, .int (nI N))]) S.1 S.2.1 dX1_isAnswer_122 rfl hl (by decide) rfl (fun ls hl => ?_)
            refine n_iinc (x := v) (k := 1) (lv' := [(4, .int (nI (v + 1))), (3, .int (bI true)), (2, .int (nI u)), (0, .ref (b 0)), (1, .int (nI N))]) S dX1_isAnswer_123 hl rfl (by decide) rfl (fun ls hl => ?_)
            refine lv_goto (tgt := 87) S.1 S.2.1 dX1_isAnswer_126 (by decide) ?_
            exact ih2 (v + 1) true ls ⟨lv_sub hl [0, 1, 2, 3, 4] rfl, by omega, by rw [allB, ← Bool.and_assoc, ← hC, ← hbit, k5]; simp [k4]⟩ (by omega)
  · refine lv_iload_n S.1 S.2.1 dX1_isAnswer_16 rfl (lv_at hl 1 rfl) ?_
    refine z_eq (tgt := 84) S dX1_isAnswer_17 (by decide) (fun h2 => ?_) (fun h2 => ?_)
    · have hB2 : B = allB (atB on rl fi se N) n := by rw [h2]; exact (allB_mono hi (by rw [← hB, h2])).symm
      have hus2 : B = true → ∀ v, v < 4 → u.testBit v = anyB (usB fi se v) n := fun h9 => by rw [h2] at h9; cases h9
      refine lv_iconst (v := (nI 0)) S.1 S.2.1 dX1_isAnswer_84 (by decide) ?_
      refine lv_istore (lv' := [(4, .int (nI 0)), (3, .int (bI B)), (2, .int (nI u)), (0, .ref (b 0)), (1, .int (nI N))]) S.1 S.2.1 dX1_isAnswer_85 hl (by decide) rfl (fun ls hl => ?_)
      refine loopR2 (α := Nat) (β := Bool) (fun v B ls => lv_has ls 5 [(4, .int (nI v)), (3, .int (bI B)), (2, .int (nI u)), (0, .ref (b 0)), (1, .int (nI N))] ∧ v ≤ 4 ∧ B = (allB (atB on rl fi se N) n && allB (fun v => anyB (usB fi se v) n || dg N v == 0) v)) (fun v B => 4 - v) (fun v C ls hJ ih2 => ?_) 0 B ls ⟨lv_sub hl [0, 1, 2, 3, 4] rfl, by decide, by rw [hB2]; simp [allB]⟩
      obtain ⟨hl, hv, hC⟩ := hJ
      refine lv_iload S.1 S.2.1 dX1_isAnswer_87 (lv_at hl 0 rfl) ?_
      refine lv_iconst (v := (nI 4)) S.1 S.2.1 dX1_isAnswer_89 (by decide) ?_
      refine n_ge (tgt := 129) S dX1_isAnswer_90 (by decide) (fun k1 => ?_) (fun k1 => ?_)
      · have e9 : v = 4 := by omega
        subst e9
        refine lv_iload_n S.1 S.2.1 dX1_isAnswer_129 rfl (lv_at hl 1 rfl) ?_
        exact r_bool S hr hlk hH hC dX1_isAnswer_130
      · refine lv_iload_n S.1 S.2.1 dX1_isAnswer_93 rfl (lv_at hl 1 rfl) ?_
        refine z_eq (tgt := 121) S dX1_isAnswer_94 (by decide) (fun k2 => ?_) (fun k2 => ?_)
        · refine lv_iconst (v := (bI false)) S.1 S.2.1 dX1_isAnswer_121 (by decide) ?_
          refine lv_istore_n (lv' := [(3, .int (bI false)), (4, .int (nI v)), (2, .int (nI u)), (0, .ref (b 0)), (1, .int (nI N))]) S.1 S.2.1 dX1_isAnswer_122 rfl hl (by decide) rfl (fun ls hl => ?_)
          refine n_iinc (x := v) (k := 1) (lv' := [(4, .int (nI (v + 1))), (3, .int (bI false)), (2, .int (nI u)), (0, .ref (b 0)), (1, .int (nI N))]) S dX1_isAnswer_123 hl rfl (by decide) rfl (fun ls hl => ?_)
          refine lv_goto (tgt := 87) S.1 S.2.1 dX1_isAnswer_126 (by decide) ?_
          exact ih2 (v + 1) false ls ⟨lv_sub hl [0, 1, 2, 3, 4] rfl, by omega, by rw [allB, ← Bool.and_assoc, ← hC, k2]; rfl⟩ (by omega)
        · subst k2
          have hBt : B = true := by
            cases hb : B with
            | true => rfl
            | false => rw [← hB2, hb] at hC; cases hC
          have hbit := hus2 hBt v (by omega)
          refine lv_iload_n S.1 S.2.1 dX1_isAnswer_97 rfl (lv_at hl 2 rfl) ?_
          refine lv_iload S.1 S.2.1 dX1_isAnswer_98 (lv_at hl 0 rfl) ?_
          refine n_ishr S (by omega) (by omega) dX1_isAnswer_100 ?_
          refine lv_iconst (v := (nI 1)) S.1 S.2.1 dX1_isAnswer_101 (by decide) ?_
          refine n_iand1 S (Nat.lt_of_le_of_lt (Nat.div_le_self _ _) (by omega)) dX1_isAnswer_102 ?_
          refine lv_iconst (v := (nI 1)) S.1 S.2.1 dX1_isAnswer_103 (by decide) ?_
          refine n_eq (tgt := 117) S dX1_isAnswer_104 (by decide) (fun k3 => ?_) (fun k3 => ?_) (by omega) (by decide)
          · refine lv_iconst (v := (bI true)) S.1 S.2.1 dX1_isAnswer_117 (by decide) ?_
            refine lv_goto (tgt := 122) S.1 S.2.1 dX1_isAnswer_118 (by decide) ?_
            refine lv_istore_n (lv' := [(3, .int (bI true)), (4, .int (nI v)), (2, .int (nI u)), (0, .ref (b 0)), (1, .int (nI N))]) S.1 S.2.1 dX1_isAnswer_122 rfl hl (by decide) rfl (fun ls hl => ?_)
            refine n_iinc (x := v) (k := 1) (lv' := [(4, .int (nI (v + 1))), (3, .int (bI true)), (2, .int (nI u)), (0, .ref (b 0)), (1, .int (nI N))]) S dX1_isAnswer_123 hl rfl (by decide) rfl (fun ls hl => ?_)
            refine lv_goto (tgt := 87) S.1 S.2.1 dX1_isAnswer_126 (by decide) ?_
            exact ih2 (v + 1) true ls ⟨lv_sub hl [0, 1, 2, 3, 4] rfl, by omega, by rw [allB, ← Bool.and_assoc, ← hC, ← hbit, Nat.testBit_eq_decide_div_mod_eq]; simp [k3]⟩ (by omega)
          · refine lv_aload_n S.1 S.2.1 dX1_isAnswer_107 rfl (lv_at hl 3 rfl) ?_
            refine lv_iload_n S.1 S.2.1 dX1_isAnswer_108 rfl (lv_at hl 4 rfl) ?_
            refine lv_iload S.1 S.2.1 dX1_isAnswer_109 (lv_at hl 0 rfl) ?_
            refine kM_of S hK hP (k := N) (d := v) (by omega) (by omega) hl.1 dX1_isAnswer_111 ?_
            have kd := dg_lt N v
            have k5 : u.testBit v = false := by rw [Nat.testBit_eq_decide_div_mod_eq]; simp [k3]
            refine n_ifne (tgt := 121) S dX1_isAnswer_114 (by decide) (fun k4 => ?_) (fun k4 => ?_)
            · refine lv_iconst (v := (bI false)) S.1 S.2.1 dX1_isAnswer_121 (by decide) ?_
              refine lv_istore_n (lv' := [(3, .int (bI false)), (4, .int (nI v)), (2, .int (nI u)), (0, .ref (b 0)), (1, .int (nI N))]) S.1 S.2.1 dX1_isAnswer_122 rfl hl (by decide) rfl (fun ls hl => ?_)
              refine n_iinc (x := v) (k := 1) (lv' := [(4, .int (nI (v + 1))), (3, .int (bI false)), (2, .int (nI u)), (0, .ref (b 0)), (1, .int (nI N))]) S dX1_isAnswer_123 hl rfl (by decide) rfl (fun ls hl => ?_)
              refine lv_goto (tgt := 87) S.1 S.2.1 dX1_isAnswer_126 (by decide) ?_
              exact ih2 (v + 1) false ls ⟨lv_sub hl [0, 1, 2, 3, 4] rfl, by omega, by rw [allB, ← Bool.and_assoc, ← hC, ← hbit, k5]; simp; omega⟩ (by omega)
            · refine lv_iconst (v := (bI true)) S.1 S.2.1 dX1_isAnswer_117 (by decide) ?_
              refine lv_goto (tgt := 122) S.1 S.2.1 dX1_isAnswer_118 (by decide) ?_
              refine lv_istore_n (lv' := [(3, .int (bI true)), (4, .int (nI v)), (2, .int (nI u)), (0, .ref (b 0)), (1, .int (nI N))]) S.1 S.2.1 dX1_isAnswer_122 rfl hl (by decide) rfl (fun ls hl => ?_)
              refine n_iinc (x := v) (k := 1) (lv' := [(4, .int (nI (v + 1))), (3, .int (bI true)), (2, .int (nI u)), (0, .ref (b 0)), (1, .int (nI N))]) S dX1_isAnswer_123 hl rfl (by decide) rfl (fun ls hl => ?_)
              refine lv_goto (tgt := 87) S.1 S.2.1 dX1_isAnswer_126 (by decide) ?_
              exact ih2 (v + 1) true ls ⟨lv_sub hl [0, 1, 2, 3, 4] rfl, by omega, by rw [allB, ← Bool.and_assoc, ← hC, ← hbit, k5]; simp [k4]⟩ (by omega)
    · subst h2
      have b1 := hfi i
      have b2 := hse i
      have b3 := hrl i
      have b4 := dg_lt N (fi i)
      have b5 := dg_lt N (se i)
      refine lv_iload_n S.1 S.2.1 dX1_isAnswer_20 rfl (lv_at hl 2 rfl) ?_
      refine lv_iconst (v := (nI 1)) S.1 S.2.1 dX1_isAnswer_21 (by decide) ?_
      refine lv_aload_n S.1 S.2.1 dX1_isAnswer_22 rfl (lv_at hl 3 rfl) ?_
      refine gM_fi S hK hP dX1_isAnswer_23 ?_
      refine lv_iload S.1 S.2.1 dX1_isAnswer_26 (lv_at hl 0 rfl) ?_
      refine lM_fi S hK hP (by omega) dX1_isAnswer_28 ?_
      refine n_ishl1 S (by omega) dX1_isAnswer_29 ?_
      refine n_ior S dX1_isAnswer_30 ?_
      refine lv_iconst (v := (nI 1)) S.1 S.2.1 dX1_isAnswer_31 (by decide) ?_
      refine lv_aload_n S.1 S.2.1 dX1_isAnswer_32 rfl (lv_at hl 3 rfl) ?_
      refine gM_se S hK hP dX1_isAnswer_33 ?_
      refine lv_iload S.1 S.2.1 dX1_isAnswer_36 (lv_at hl 0 rfl) ?_
      refine lM_se S hK hP (by omega) dX1_isAnswer_38 ?_
      refine n_ishl1 S (by omega) dX1_isAnswer_39 ?_
      refine n_ior S dX1_isAnswer_40 ?_
      refine lv_istore_n (lv' := [(2, .int (nI ((u ||| (2 ^ (fi i))) ||| (2 ^ (se i))))), (4, .int (nI i)), (3, .int (bI true)), (0, .ref (b 0)), (1, .int (nI N))]) S.1 S.2.1 dX1_isAnswer_41 rfl hl (by decide) rfl (fun ls hl => ?_)
      refine lv_aload_n S.1 S.2.1 dX1_isAnswer_42 rfl (lv_at hl 3 rfl) ?_
      refine lv_aload_n S.1 S.2.1 dX1_isAnswer_43 rfl (lv_at hl 3 rfl) ?_
      refine gM_rl S hK hP dX1_isAnswer_44 ?_
      refine lv_iload S.1 S.2.1 dX1_isAnswer_47 (lv_at hl 1 rfl) ?_
      refine lM_rl S hK hP (by omega) dX1_isAnswer_49 ?_
      refine lv_aload_n S.1 S.2.1 dX1_isAnswer_50 rfl (lv_at hl 3 rfl) ?_
      refine lv_iload_n S.1 S.2.1 dX1_isAnswer_51 rfl (lv_at hl 4 rfl) ?_
      refine lv_aload_n S.1 S.2.1 dX1_isAnswer_52 rfl (lv_at hl 3 rfl) ?_
      refine gM_fi S hK hP dX1_isAnswer_53 ?_
      refine lv_iload S.1 S.2.1 dX1_isAnswer_56 (lv_at hl 1 rfl) ?_
      refine lM_fi S hK hP (by omega) dX1_isAnswer_58 ?_
      refine kM_of S hK hP (k := N) (d := fi i) (by omega) b1 hl.1 dX1_isAnswer_59 ?_
      refine lv_aload_n S.1 S.2.1 dX1_isAnswer_62 rfl (lv_at hl 3 rfl) ?_
      refine lv_iload_n S.1 S.2.1 dX1_isAnswer_63 rfl (lv_at hl 4 rfl) ?_
      refine lv_aload_n S.1 S.2.1 dX1_isAnswer_64 rfl (lv_at hl 3 rfl) ?_
      refine gM_se S hK hP dX1_isAnswer_65 ?_
      refine lv_iload S.1 S.2.1 dX1_isAnswer_68 (lv_at hl 1 rfl) ?_
      refine lM_se S hK hP (by omega) dX1_isAnswer_70 ?_
      refine kM_of S hK hP (k := N) (d := se i) (by omega) b2 hl.1 dX1_isAnswer_71 ?_
      refine kM_in S hK hP (r := rl i) (x := dg N (fi i)) (y := dg N (se i)) hI0 b3 b4 b5 hl.1 dX1_isAnswer_74 ?_
      refine lv_istore_n (lv' := [(3, .int (bI (atB on rl fi se N i))), (2, .int (nI ((u ||| (2 ^ (fi i))) ||| (2 ^ (se i))))), (4, .int (nI i)), (0, .ref (b 0)), (1, .int (nI N))]) S.1 S.2.1 dX1_isAnswer_77 rfl hl (by decide) rfl (fun ls hl => ?_)
      refine n_iinc (x := i) (k := 2) (lv' := [(4, .int (nI (i + 1))), (3, .int (bI (atB on rl fi se N i))), (2, .int (nI ((u ||| (2 ^ (fi i))) ||| (2 ^ (se i))))), (0, .ref (b 0)), (1, .int (nI N))]) S dX1_isAnswer_78 hl rfl (by decide) rfl (fun ls hl => ?_)
      refine lv_goto (tgt := 7) S.1 S.2.1 dX1_isAnswer_81 (by decide) ?_
      exact ih (i + 1) (u ||| 2 ^ fi i ||| 2 ^ se i) (atB on rl fi se N i) ls ⟨lv_sub hl [0, 1, 2, 3, 4] rfl, h1, or_lt16 hu b1 b2, fun v hv => us_step (hus v hv), by rw [allB, ← hB]; rfl⟩ (by omega)
theorem kM_isAnswer (S : CallFix p m c cc nL s args lw_all RX1) (hK : va_K D vwCl (tM cI cZ) s) (hP : va_P D vwCl (mw b cI cZ on rl fi se n sn) H) {N : Nat} (hI : XI on bk rl fi se n) (hN : N < 4096) (hsz : ls.size = nL) (hdg : decode cc pc = .ok (.invokevirtual 48, 3)) (kk : W p l e R s m args below meth c H locs cells slots Q (F0 m (pc + 3) ls (.int (bI (ansB on rl fi se n N)) :: rest))) (hR : (rmK 1).frames + 1 ≤ R.frames ∧ 8 + (5 + 11) + (rmK 1).locals ≤ R.locals := by decide) (hW : (rest.map fun v => v.category).sum ≤ 8 := by exact Nat.le_of_ble_eq_true rfl) (hf : cells ≤ R.cells ∧ slots ≤ R.slots := by first | exact ⟨Nat.zero_le _, Nat.zero_le _⟩ | decide) : W p l e R s m args below meth c H locs cells slots Q (F0 m pc ls (.int (nI N) :: .ref (b 0) :: rest)) :=
  ro_V S hK hK hP (ci := 1) rfl rfl (mM_isAnswer l hP N hI hN) (cwV 1 S.2.2.2.2 (lw_V q226 q228 qs13 q17 q229) rfl rfl rfl (by decide +kernel) hR) rfl hsz rfl hW hdg hf kk
theorem mM_count (l : Launch) (hP : va_P D vwCl (mw b cI cZ on rl fi se n sn) H)  (hI : XI on bk rl fi se n) : Met l yX1_count (ws_ yX1_count cX1_count 3 (some .int)) (rmK 2) (va_Pc [.ref (b 0)] (fun U => U.heap = H ∧ va_K D vwCl (tM cI cZ) U)) (QcRead ((nI (cnt (ansB on rl fi se n) 4096)))) 0 0 (fun _ => False) := by
  refine anyMet (by decide) (Nat.le_of_ble_eq_true rfl) (fun p e s m below meth c S hr hlk hin hH hK ls hl => ?_)
  have S : CallFix p m c cX1_count 3 s _ lw_all RX1 := S
  have hl : lv_has ls 3 [(0, .ref (b 0))] := hl
  refine lv_iconst (v := (nI 0)) S.1 S.2.1 dX1_count_0 (by decide) ?_
  refine lv_istore_n (lv' := [(1, .int (nI 0)), (0, .ref (b 0))]) S.1 S.2.1 dX1_count_1 rfl hl (by decide) rfl (fun ls hl => ?_)
  refine lv_iconst (v := (nI 0)) S.1 S.2.1 dX1_count_2 (by decide) ?_
  refine lv_istore_n (lv' := [(2, .int (nI 0)), (1, .int (nI 0)), (0, .ref (b 0))]) S.1 S.2.1 dX1_count_3 rfl hl (by decide) rfl (fun ls hl => ?_)
  refine loopR (α := Nat) (fun N ls => lv_has ls 3 [(2, .int (nI N)), (1, .int (nI (cnt (ansB on rl fi se n) N))), (0, .ref (b 0))] ∧ N ≤ 4096) (fun N => 4096 - N) (fun N ls hJ ih => ?_) 0 ls ⟨lv_sub hl [0, 1, 2] rfl, by decide⟩
  obtain ⟨hl, hN⟩ := hJ
  refine lv_iload_n S.1 S.2.1 dX1_count_4 rfl (lv_at hl 0 rfl) ?_
  refine lv_sipush (v := (nI 4096)) S.1 S.2.1 dX1_count_5 (by decide) ?_
  refine n_ge (tgt := 33) S dX1_count_8 (by decide) (fun h1 => ?_) (fun h1 => ?_)
  · have e9 : N = 4096 := by omega
    subst e9
    refine lv_iload_n S.1 S.2.1 dX1_count_33 rfl (lv_at hl 1 rfl) ?_
    exact r_int S hr hlk hH rfl dX1_count_34
  · refine lv_aload_n S.1 S.2.1 dX1_count_11 rfl (lv_at hl 2 rfl) ?_
    refine lv_iload_n S.1 S.2.1 dX1_count_12 rfl (lv_at hl 0 rfl) ?_
    refine kM_isAnswer S hK hP (N := N) hI (by omega) hl.1 dX1_count_13 ?_
    refine z_eq (tgt := 25) S dX1_count_16 (by decide) (fun h2 => ?_) (fun h2 => ?_)
    · refine lv_iload_n S.1 S.2.1 dX1_count_25 rfl (lv_at hl 1 rfl) ?_
      refine lv_istore_n (lv' := [(1, .int (nI (cnt (ansB on rl fi se n) N))), (2, .int (nI N)), (0, .ref (b 0))]) S.1 S.2.1 dX1_count_26 rfl hl (by decide) rfl (fun ls hl => ?_)
      refine n_iinc (x := N) (k := 1) (lv' := [(2, .int (nI (N + 1))), (1, .int (nI (cnt (ansB on rl fi se n) N))), (0, .ref (b 0))]) S dX1_count_27 hl rfl (by decide) rfl (fun ls hl => ?_)
      refine lv_goto (tgt := 4) S.1 S.2.1 dX1_count_30 (by decide) ?_
      exact ih (N + 1) ls ⟨by rw [cnt_f h2]; exact lv_sub hl [0, 1, 2] rfl, by omega⟩ (by omega)
    · refine lv_iload_n S.1 S.2.1 dX1_count_19 rfl (lv_at hl 1 rfl) ?_
      refine lv_iconst (v := (nI 1)) S.1 S.2.1 dX1_count_20 (by decide) ?_
      refine n_iadd S dX1_count_21 ?_
      refine lv_goto (tgt := 26) S.1 S.2.1 dX1_count_22 (by decide) ?_
      refine lv_istore_n (lv' := [(1, .int (nI ((cnt (ansB on rl fi se n) N) + 1))), (2, .int (nI N)), (0, .ref (b 0))]) S.1 S.2.1 dX1_count_26 rfl hl (by decide) rfl (fun ls hl => ?_)
      refine n_iinc (x := N) (k := 1) (lv' := [(2, .int (nI (N + 1))), (1, .int (nI ((cnt (ansB on rl fi se n) N) + 1))), (0, .ref (b 0))]) S dX1_count_27 hl rfl (by decide) rfl (fun ls hl => ?_)
      refine lv_goto (tgt := 4) S.1 S.2.1 dX1_count_30 (by decide) ?_
      exact ih (N + 1) ls ⟨by rw [cnt_t h2]; exact lv_sub hl [0, 1, 2] rfl, by omega⟩ (by omega)
theorem kM_count (S : CallFix p m c cc nL s args lw_all RX1) (hK : va_K D vwCl (tM cI cZ) s) (hP : va_P D vwCl (mw b cI cZ on rl fi se n sn) H)  (hI : XI on bk rl fi se n) (hsz : ls.size = nL) (hdg : decode cc pc = .ok (.invokevirtual 51, 3)) (kk : W p l e R s m args below meth c H locs cells slots Q (F0 m (pc + 3) ls (.int (nI (cnt (ansB on rl fi se n) 4096)) :: rest))) (hR : (rmK 2).frames + 1 ≤ R.frames ∧ 8 + (3 + 11) + (rmK 2).locals ≤ R.locals := by decide) (hW : (rest.map fun v => v.category).sum ≤ 8 := by exact Nat.le_of_ble_eq_true rfl) (hf : cells ≤ R.cells ∧ slots ≤ R.slots := by first | exact ⟨Nat.zero_le _, Nat.zero_le _⟩ | decide) : W p l e R s m args below meth c H locs cells slots Q (F0 m pc ls (.ref (b 0) :: rest)) :=
  ro_V S hK hK hP (ci := 1) rfl rfl (mM_count l hP hI) (cwV 0 S.2.2.2.2 (lw_V q262 q223 q224 q17 q225) rfl rfl rfl (by decide +kernel) hR) rfl hsz rfl hW hdg hf kk
theorem mM_answer (l : Launch) (hP : va_P D vwCl (mw b cI cZ on rl fi se n sn) H) (p0 : Int32) (hI : XI on bk rl fi se n) : Met l yX1_answer (ws_ yX1_answer cX1_answer 4 (some .int)) (rmK 2) (va_Pc [.ref (b 0), .int p0] (fun U => U.heap = H ∧ va_K D vwCl (tM cI cZ) U)) (QcRead ((akV (ansB on rl fi se n) p0))) 0 0 (fun _ => False) := by
  refine anyMet (by decide) (Nat.le_of_ble_eq_true rfl) (fun p e s m below meth c S hr hlk hin hH hK ls hl => ?_)
  have S : CallFix p m c cX1_answer 4 s _ lw_all RX1 := S
  have hl : lv_has ls 4 [(0, .ref (b 0)), (1, .int p0)] := hl
  refine lv_iconst (v := (nI 0)) S.1 S.2.1 dX1_answer_0 (by decide) ?_
  refine lv_istore_n (lv' := [(2, .int (nI 0)), (0, .ref (b 0)), (1, .int p0)]) S.1 S.2.1 dX1_answer_1 rfl hl (by decide) rfl (fun ls hl => ?_)
  refine lv_iconst (v := (nI 0)) S.1 S.2.1 dX1_answer_2 (by decide) ?_
  refine lv_istore_n (lv' := [(3, .int (nI 0)), (2, .int (nI 0)), (0, .ref (b 0)), (1, .int p0)]) S.1 S.2.1 dX1_answer_3 rfl hl (by decide) rfl (fun ls hl => ?_)
  refine loopR (α := Nat) (fun N ls => lv_has ls 4 [(3, .int (nI N)), (2, .int (nI (cnt (ansB on rl fi se n) N))), (0, .ref (b 0)), (1, .int p0)] ∧ N ≤ 4096 ∧ ∀ z, z < N → (ansB on rl fi se n z && decide (nI (cnt (ansB on rl fi se n) z) = p0)) = false) (fun N => 4096 - N) (fun N ls hJ ih => ?_) 0 ls ⟨lv_sub hl [0, 1, 2, 3] rfl, by decide, fun z hz => absurd hz (Nat.not_lt_zero z)⟩
  obtain ⟨hl, hN, hz⟩ := hJ
  refine lv_iload_n S.1 S.2.1 dX1_answer_4 rfl (lv_at hl 0 rfl) ?_
  refine lv_sipush (v := (nI 4096)) S.1 S.2.1 dX1_answer_5 (by decide) ?_
  refine n_ge (tgt := 35) S dX1_answer_8 (by decide) (fun h1 => ?_) (fun h1 => ?_)
  · have e9 : N = 4096 := by omega
    subst e9
    refine lv_iconst (v := (-1)) S.1 S.2.1 dX1_answer_35 (by decide) ?_
    exact r_int S hr hlk hH (ak_miss hz) dX1_answer_36
  · refine lv_aload_n S.1 S.2.1 dX1_answer_11 rfl (lv_at hl 2 rfl) ?_
    refine lv_iload_n S.1 S.2.1 dX1_answer_12 rfl (lv_at hl 0 rfl) ?_
    refine kM_isAnswer S hK hP (N := N) hI (by omega) hl.1 dX1_answer_13 ?_
    refine z_eq (tgt := 29) S dX1_answer_16 (by decide) (fun h2 => ?_) (fun h2 => ?_)
    · refine n_iinc (x := N) (k := 0) (lv' := [(3, .int (nI (N + 1))), (2, .int (nI (cnt (ansB on rl fi se n) N))), (0, .ref (b 0)), (1, .int p0)]) S dX1_answer_29 hl rfl (by decide) rfl (fun ls hl => ?_)
      refine lv_goto (tgt := 4) S.1 S.2.1 dX1_answer_32 (by decide) ?_
      exact ih (N + 1) ls ⟨by rw [cnt_f h2]; exact lv_sub hl [0, 1, 2, 3] rfl, by omega, lt_s9 hz (by simp [h2])⟩ (by omega)
    · refine lv_iload_n S.1 S.2.1 dX1_answer_19 rfl (lv_at hl 1 rfl) ?_
      refine lv_iload_n S.1 S.2.1 dX1_answer_20 rfl (lv_at hl 3 rfl) ?_
      refine lv_icmp_ne (tgt := 26) S.1 S.2.1 dX1_answer_21 (by decide) (fun h3 => ?_) (fun h3 => ?_)
      · refine n_iinc (x := cnt (ansB on rl fi se n) N) (k := 1) (lv' := [(2, .int (nI (cnt (ansB on rl fi se n) N + 1))), (3, .int (nI N)), (0, .ref (b 0)), (1, .int p0)]) S dX1_answer_26 hl rfl (by decide) rfl (fun ls hl => ?_)
        refine n_iinc (x := N) (k := 1) (lv' := [(3, .int (nI (N + 1))), (2, .int (nI (cnt (ansB on rl fi se n) N + 1))), (0, .ref (b 0)), (1, .int p0)]) S dX1_answer_29 hl rfl (by decide) rfl (fun ls hl => ?_)
        refine lv_goto (tgt := 4) S.1 S.2.1 dX1_answer_32 (by decide) ?_
        exact ih (N + 1) ls ⟨by rw [cnt_t h2]; exact lv_sub hl [0, 1, 2, 3] rfl, by omega, lt_s9 hz (by simp [h3])⟩ (by omega)
      · refine lv_iload_n S.1 S.2.1 dX1_answer_24 rfl (lv_at hl 0 rfl) ?_
        exact r_int S hr hlk hH (ak_hit h1 hz h2 h3) dX1_answer_25
theorem mM_seek (l : Launch) (hP : va_P D vwCl (mw b cI cZ on rl fi se n sn) H) (p0 : Int32) (hI : XI on bk rl fi se n) : Met l yX1_seek (ws_ yX1_seek cX1_seek 3 (some .int)) (rmK 2) (va_Pc [.ref (b 0), .int p0] (fun U => U.heap = H ∧ va_K D vwCl (tM cI cZ) U)) (QcRead ((skV (ansB on rl fi se n) p0))) 0 0 (fun _ => False) := by
  refine anyMet (by decide) (Nat.le_of_ble_eq_true rfl) (fun p e s m below meth c S hr hlk hin hH hK ls hl => ?_)
  have S : CallFix p m c cX1_seek 3 s _ lw_all RX1 := S
  have hl : lv_has ls 3 [(0, .ref (b 0)), (1, .int p0)] := hl
  refine lv_iconst (v := (nI 0)) S.1 S.2.1 dX1_seek_0 (by decide) ?_
  refine lv_istore_n (lv' := [(2, .int (nI 0)), (0, .ref (b 0)), (1, .int p0)]) S.1 S.2.1 dX1_seek_1 rfl hl (by decide) rfl (fun ls hl => ?_)
  refine loopR (α := Nat) (fun N ls => lv_has ls 3 [(2, .int (nI N)), (0, .ref (b 0)), (1, .int p0)] ∧ N ≤ 4096 ∧ ∀ z, z < N → (!decide (nI z < p0) && ansB on rl fi se n z) = false) (fun N => 4096 - N) (fun N ls hJ ih => ?_) 0 ls ⟨lv_sub hl [0, 1, 2] rfl, by decide, fun z hz => absurd hz (Nat.not_lt_zero z)⟩
  obtain ⟨hl, hN, hz⟩ := hJ
  refine lv_iload_n S.1 S.2.1 dX1_seek_2 rfl (lv_at hl 0 rfl) ?_
  refine lv_sipush (v := (nI 4096)) S.1 S.2.1 dX1_seek_3 (by decide) ?_
  refine n_ge (tgt := 30) S dX1_seek_6 (by decide) (fun h1 => ?_) (fun h1 => ?_)
  · have e9 : N = 4096 := by omega
    subst e9
    refine lv_iconst (v := (-1)) S.1 S.2.1 dX1_seek_30 (by decide) ?_
    exact r_int S hr hlk hH (sk_miss hz) dX1_seek_31
  · refine lv_iload_n S.1 S.2.1 dX1_seek_9 rfl (lv_at hl 0 rfl) ?_
    refine lv_iload_n S.1 S.2.1 dX1_seek_10 rfl (lv_at hl 2 rfl) ?_
    refine lv_icmp_lt (tgt := 24) S.1 S.2.1 dX1_seek_11 (by decide) (fun h2 => ?_) (fun h2 => ?_)
    · refine n_iinc (x := N) (k := 0) (lv' := [(2, .int (nI (N + 1))), (0, .ref (b 0)), (1, .int p0)]) S dX1_seek_24 hl rfl (by decide) rfl (fun ls hl => ?_)
      refine lv_goto (tgt := 2) S.1 S.2.1 dX1_seek_27 (by decide) ?_
      exact ih (N + 1) ls ⟨lv_sub hl [0, 1, 2] rfl, by omega, lt_s9 hz (by simp [h2])⟩ (by omega)
    · refine lv_aload_n S.1 S.2.1 dX1_seek_14 rfl (lv_at hl 1 rfl) ?_
      refine lv_iload_n S.1 S.2.1 dX1_seek_15 rfl (lv_at hl 0 rfl) ?_
      refine kM_isAnswer S hK hP (N := N) hI (by omega) hl.1 dX1_seek_16 ?_
      refine z_eq (tgt := 24) S dX1_seek_19 (by decide) (fun h3 => ?_) (fun h3 => ?_)
      · refine n_iinc (x := N) (k := 0) (lv' := [(2, .int (nI (N + 1))), (0, .ref (b 0)), (1, .int p0)]) S dX1_seek_24 hl rfl (by decide) rfl (fun ls hl => ?_)
        refine lv_goto (tgt := 2) S.1 S.2.1 dX1_seek_27 (by decide) ?_
        exact ih (N + 1) ls ⟨lv_sub hl [0, 1, 2] rfl, by omega, lt_s9 hz (by simp [h3])⟩ (by omega)
      · refine lv_iload_n S.1 S.2.1 dX1_seek_22 rfl (lv_at hl 0 rfl) ?_
        exact r_int S hr hlk hH (sk_hit h1 hz h3 h2) dX1_seek_23
theorem mM_values (l : Launch) (hP : va_P D vwCl (mw b cI cZ on rl fi se n sn) H) (p0 : Int32) (hI : XI on bk rl fi se n) : Met l yX1_values (ws_ yX1_values cX1_values 4 (some .int)) (rmK 2) (va_Pc [.ref (b 0), .int p0] (fun U => U.heap = H ∧ va_K D vwCl (tM cI cZ) U)) (QcRead ((vaV (ansB on rl fi se n) p0))) 0 0 (fun _ => False) := by
  refine anyMet (by decide) (Nat.le_of_ble_eq_true rfl) (fun p e s m below meth c S hr hlk hin hH hK ls hl => ?_)
  have S : CallFix p m c cX1_values 4 s _ lw_all RX1 := S
  have hl : lv_has ls 4 [(0, .ref (b 0)), (1, .int p0)] := hl
  rcases bcase (inR p0 4) with h0 | h0
  · refine lv_iconst (v := (nI 0)) S.1 S.2.1 dX1_values_0 (by decide) ?_
    refine lv_istore_n (lv' := [(2, .int (nI 0)), (0, .ref (b 0)), (1, .int p0)]) S.1 S.2.1 dX1_values_1 rfl hl (by decide) rfl (fun ls hl => ?_)
    refine lv_iconst (v := (nI 0)) S.1 S.2.1 dX1_values_2 (by decide) ?_
    refine lv_istore_n (lv' := [(3, .int (nI 0)), (2, .int (nI 0)), (0, .ref (b 0)), (1, .int p0)]) S.1 S.2.1 dX1_values_3 rfl hl (by decide) rfl (fun ls hl => ?_)
    refine lv_iload_n S.1 S.2.1 dX1_values_4 rfl (lv_at hl 0 rfl) ?_
    refine lv_sipush (v := (nI 4096)) S.1 S.2.1 dX1_values_5 (by decide) ?_
    refine n_ge (tgt := 48) S dX1_values_8 (by decide) (fun h1 => ?_) (fun h1 => ?_)
    · exact absurd h1 (by decide)
    · refine lv_aload_n S.1 S.2.1 dX1_values_11 rfl (lv_at hl 2 rfl) ?_
      refine lv_iload_n S.1 S.2.1 dX1_values_12 rfl (lv_at hl 3 rfl) ?_
      refine kM_variable S hK hP (p0 := p0) hl.1 dX1_values_13 ?_
      refine z_eq (tgt := 48) S dX1_values_16 (by decide) (fun h2 => ?_) (fun h2 => ?_)
      · refine lv_iload_n S.1 S.2.1 dX1_values_48 rfl (lv_at hl 1 rfl) ?_
        exact r_int S hr hlk hH (by unfold vaV; rw [h0]; rfl) dX1_values_49
      · rw [h0] at h2; cases h2
  · obtain ⟨v, hv, rfl⟩ := inR_t (by decide) h0
    refine lv_iconst (v := (nI 0)) S.1 S.2.1 dX1_values_0 (by decide) ?_
    refine lv_istore_n (lv' := [(2, .int (nI 0)), (0, .ref (b 0)), (1, .int (nI v))]) S.1 S.2.1 dX1_values_1 rfl hl (by decide) rfl (fun ls hl => ?_)
    refine lv_iconst (v := (nI 0)) S.1 S.2.1 dX1_values_2 (by decide) ?_
    refine lv_istore_n (lv' := [(3, .int (nI 0)), (2, .int (nI 0)), (0, .ref (b 0)), (1, .int (nI v))]) S.1 S.2.1 dX1_values_3 rfl hl (by decide) rfl (fun ls hl => ?_)
    refine loopR (α := Nat) (fun N ls => lv_has ls 4 [(3, .int (nI N)), (2, .int (nI (vset (ansB on rl fi se n) v N))), (0, .ref (b 0)), (1, .int (nI v))] ∧ N ≤ 4096) (fun N => 4096 - N) (fun N ls hJ ih => ?_) 0 ls ⟨lv_sub hl [0, 1, 2, 3] rfl, by decide⟩
    obtain ⟨hl, hN⟩ := hJ
    refine lv_iload_n S.1 S.2.1 dX1_values_4 rfl (lv_at hl 0 rfl) ?_
    refine lv_sipush (v := (nI 4096)) S.1 S.2.1 dX1_values_5 (by decide) ?_
    refine n_ge (tgt := 48) S dX1_values_8 (by decide) (fun h1 => ?_) (fun h1 => ?_)
    · have e9 : N = 4096 := by omega
      subst e9
      refine lv_iload_n S.1 S.2.1 dX1_values_48 rfl (lv_at hl 1 rfl) ?_
      exact r_int S hr hlk hH (by unfold vaV; rw [h0, nI_clamp (by omega)]; rfl) dX1_values_49
    · refine lv_aload_n S.1 S.2.1 dX1_values_11 rfl (lv_at hl 2 rfl) ?_
      refine lv_iload_n S.1 S.2.1 dX1_values_12 rfl (lv_at hl 3 rfl) ?_
      refine kM_variable S hK hP (p0 := nI v) hl.1 dX1_values_13 ?_
      refine z_eq (tgt := 48) S dX1_values_16 (by decide) (fun h2 => ?_) (fun h2 => ?_)
      · rw [h0] at h2; cases h2
      · refine lv_aload_n S.1 S.2.1 dX1_values_19 rfl (lv_at hl 2 rfl) ?_
        refine lv_iload_n S.1 S.2.1 dX1_values_20 rfl (lv_at hl 0 rfl) ?_
        refine kM_isAnswer S hK hP (N := N) hI (by omega) hl.1 dX1_values_21 ?_
        refine z_eq (tgt := 40) S dX1_values_24 (by decide) (fun h3 => ?_) (fun h3 => ?_)
        · refine lv_iload_n S.1 S.2.1 dX1_values_40 rfl (lv_at hl 1 rfl) ?_
          refine lv_istore_n (lv' := [(2, .int (nI (vset (ansB on rl fi se n) v N))), (3, .int (nI N)), (0, .ref (b 0)), (1, .int (nI v))]) S.1 S.2.1 dX1_values_41 rfl hl (by decide) rfl (fun ls hl => ?_)
          refine n_iinc (x := N) (k := 1) (lv' := [(3, .int (nI (N + 1))), (2, .int (nI (vset (ansB on rl fi se n) v N))), (0, .ref (b 0)), (1, .int (nI v))]) S dX1_values_42 hl rfl (by decide) rfl (fun ls hl => ?_)
          refine lv_goto (tgt := 4) S.1 S.2.1 dX1_values_45 (by decide) ?_
          exact ih (N + 1) ls ⟨by rw [vset_f h3]; exact lv_sub hl [0, 1, 2, 3] rfl, by omega⟩ (by omega)
        · have b1 := dg_lt N v
          refine lv_iload_n S.1 S.2.1 dX1_values_27 rfl (lv_at hl 1 rfl) ?_
          refine lv_iconst (v := (nI 1)) S.1 S.2.1 dX1_values_28 (by decide) ?_
          refine lv_aload_n S.1 S.2.1 dX1_values_29 rfl (lv_at hl 2 rfl) ?_
          refine lv_iload_n S.1 S.2.1 dX1_values_30 rfl (lv_at hl 0 rfl) ?_
          refine lv_iload_n S.1 S.2.1 dX1_values_31 rfl (lv_at hl 3 rfl) ?_
          refine kM_of S hK hP (k := N) (d := v) (by omega) hv hl.1 dX1_values_32 ?_
          refine n_ishl1 S (by omega) dX1_values_35 ?_
          refine n_ior S dX1_values_36 ?_
          refine lv_goto (tgt := 41) S.1 S.2.1 dX1_values_37 (by decide) ?_
          refine lv_istore_n (lv' := [(2, .int (nI ((vset (ansB on rl fi se n) v N) ||| (2 ^ (dg N v))))), (3, .int (nI N)), (0, .ref (b 0)), (1, .int (nI v))]) S.1 S.2.1 dX1_values_41 rfl hl (by decide) rfl (fun ls hl => ?_)
          refine n_iinc (x := N) (k := 1) (lv' := [(3, .int (nI (N + 1))), (2, .int (nI ((vset (ansB on rl fi se n) v N) ||| (2 ^ (dg N v))))), (0, .ref (b 0)), (1, .int (nI v))]) S dX1_values_42 hl rfl (by decide) rfl (fun ls hl => ?_)
          refine lv_goto (tgt := 4) S.1 S.2.1 dX1_values_45 (by decide) ?_
          exact ih (N + 1) ls ⟨by rw [vset_t h3]; exact lv_sub hl [0, 1, 2, 3] rfl, by omega⟩ (by omega)
theorem mM_countWith (l : Launch) (hP : va_P D vwCl (mw b cI cZ on rl fi se n sn) H) (p0 : Int32) (p1 : Int32) (hI : XI on bk rl fi se n) : Met l yX1_countWith (ws_ yX1_countWith cX1_countWith 5 (some .int)) (rmK 2) (va_Pc [.ref (b 0), .int p0, .int p1] (fun U => U.heap = H ∧ va_K D vwCl (tM cI cZ) U)) (QcRead ((cwV_ (ansB on rl fi se n) p0 p1))) 0 0 (fun _ => False) := by
  refine anyMet (by decide) (Nat.le_of_ble_eq_true rfl) (fun p e s m below meth c S hr hlk hin hH hK ls hl => ?_)
  have S : CallFix p m c cX1_countWith 5 s _ lw_all RX1 := S
  have hl : lv_has ls 5 [(0, .ref (b 0)), (1, .int p0), (2, .int p1)] := hl
  rcases bcase (inR p0 4) with h0 | h0
  · refine lv_iconst (v := (nI 0)) S.1 S.2.1 dX1_countWith_0 (by decide) ?_
    refine lv_istore_n (lv' := [(3, .int (nI 0)), (0, .ref (b 0)), (1, .int p0), (2, .int p1)]) S.1 S.2.1 dX1_countWith_1 rfl hl (by decide) rfl (fun ls hl => ?_)
    refine lv_iconst (v := (nI 0)) S.1 S.2.1 dX1_countWith_2 (by decide) ?_
    refine lv_istore (lv' := [(4, .int (nI 0)), (3, .int (nI 0)), (0, .ref (b 0)), (1, .int p0), (2, .int p1)]) S.1 S.2.1 dX1_countWith_3 hl (by decide) rfl (fun ls hl => ?_)
    refine lv_iload S.1 S.2.1 dX1_countWith_5 (lv_at hl 0 rfl) ?_
    refine lv_sipush (v := (nI 4096)) S.1 S.2.1 dX1_countWith_7 (by decide) ?_
    refine n_ge (tgt := 55) S dX1_countWith_10 (by decide) (fun h1 => ?_) (fun h1 => ?_)
    · exact absurd h1 (by decide)
    · refine lv_aload_n S.1 S.2.1 dX1_countWith_13 rfl (lv_at hl 2 rfl) ?_
      refine lv_iload_n S.1 S.2.1 dX1_countWith_14 rfl (lv_at hl 3 rfl) ?_
      refine kM_variable S hK hP (p0 := p0) hl.1 dX1_countWith_15 ?_
      refine z_eq (tgt := 55) S dX1_countWith_18 (by decide) (fun h2 => ?_) (fun h2 => ?_)
      · refine lv_iload_n S.1 S.2.1 dX1_countWith_55 rfl (lv_at hl 1 rfl) ?_
        exact r_int S hr hlk hH (by unfold cwV_; rw [h0]; rfl) dX1_countWith_56
      · rw [h0] at h2; cases h2
  · obtain ⟨v, hv, rfl⟩ := inR_t (by decide) h0
    refine lv_iconst (v := (nI 0)) S.1 S.2.1 dX1_countWith_0 (by decide) ?_
    refine lv_istore_n (lv' := [(3, .int (nI 0)), (0, .ref (b 0)), (1, .int (nI v)), (2, .int p1)]) S.1 S.2.1 dX1_countWith_1 rfl hl (by decide) rfl (fun ls hl => ?_)
    refine lv_iconst (v := (nI 0)) S.1 S.2.1 dX1_countWith_2 (by decide) ?_
    refine lv_istore (lv' := [(4, .int (nI 0)), (3, .int (nI 0)), (0, .ref (b 0)), (1, .int (nI v)), (2, .int p1)]) S.1 S.2.1 dX1_countWith_3 hl (by decide) rfl (fun ls hl => ?_)
    refine loopR (α := Nat) (fun N ls => lv_has ls 5 [(4, .int (nI N)), (3, .int (nI (cnt (cwB (ansB on rl fi se n) v p1) N))), (0, .ref (b 0)), (1, .int (nI v)), (2, .int p1)] ∧ N ≤ 4096) (fun N => 4096 - N) (fun N ls hJ ih => ?_) 0 ls ⟨lv_sub hl [0, 1, 2, 3, 4] rfl, by decide⟩
    obtain ⟨hl, hN⟩ := hJ
    refine lv_iload S.1 S.2.1 dX1_countWith_5 (lv_at hl 0 rfl) ?_
    refine lv_sipush (v := (nI 4096)) S.1 S.2.1 dX1_countWith_7 (by decide) ?_
    refine n_ge (tgt := 55) S dX1_countWith_10 (by decide) (fun h1 => ?_) (fun h1 => ?_)
    · have e9 : N = 4096 := by omega
      subst e9
      refine lv_iload_n S.1 S.2.1 dX1_countWith_55 rfl (lv_at hl 1 rfl) ?_
      exact r_int S hr hlk hH (by unfold cwV_; rw [h0, nI_clamp (by omega)]; rfl) dX1_countWith_56
    · refine lv_aload_n S.1 S.2.1 dX1_countWith_13 rfl (lv_at hl 2 rfl) ?_
      refine lv_iload_n S.1 S.2.1 dX1_countWith_14 rfl (lv_at hl 3 rfl) ?_
      refine kM_variable S hK hP (p0 := nI v) hl.1 dX1_countWith_15 ?_
      refine z_eq (tgt := 55) S dX1_countWith_18 (by decide) (fun h2 => ?_) (fun h2 => ?_)
      · rw [h0] at h2; cases h2
      · refine lv_aload_n S.1 S.2.1 dX1_countWith_21 rfl (lv_at hl 2 rfl) ?_
        refine lv_iload S.1 S.2.1 dX1_countWith_22 (lv_at hl 0 rfl) ?_
        refine lv_iload_n S.1 S.2.1 dX1_countWith_24 rfl (lv_at hl 3 rfl) ?_
        refine kM_of S hK hP (k := N) (d := v) (by omega) hv hl.1 dX1_countWith_25 ?_
        refine lv_iload_n S.1 S.2.1 dX1_countWith_28 rfl (lv_at hl 4 rfl) ?_
        refine lv_icmp_ne (tgt := 47) S.1 S.2.1 dX1_countWith_29 (by decide) (fun h3 => ?_) (fun h3 => ?_)
        · refine lv_iload_n S.1 S.2.1 dX1_countWith_47 rfl (lv_at hl 1 rfl) ?_
          refine lv_istore_n (lv' := [(3, .int (nI (cnt (cwB (ansB on rl fi se n) v p1) N))), (4, .int (nI N)), (0, .ref (b 0)), (1, .int (nI v)), (2, .int p1)]) S.1 S.2.1 dX1_countWith_48 rfl hl (by decide) rfl (fun ls hl => ?_)
          refine n_iinc (x := N) (k := 1) (lv' := [(4, .int (nI (N + 1))), (3, .int (nI (cnt (cwB (ansB on rl fi se n) v p1) N))), (0, .ref (b 0)), (1, .int (nI v)), (2, .int p1)]) S dX1_countWith_49 hl rfl (by decide) rfl (fun ls hl => ?_)
          refine lv_goto (tgt := 5) S.1 S.2.1 dX1_countWith_52 (by decide) ?_
          exact ih (N + 1) ls ⟨by rw [cnt_f (f := cwB (ansB on rl fi se n) v p1) (by simp [cwB, h3])]; exact lv_sub hl [0, 1, 2, 3, 4] rfl, by omega⟩ (by omega)
        · refine lv_aload_n S.1 S.2.1 dX1_countWith_32 rfl (lv_at hl 2 rfl) ?_
          refine lv_iload S.1 S.2.1 dX1_countWith_33 (lv_at hl 0 rfl) ?_
          refine kM_isAnswer S hK hP (N := N) hI (by omega) hl.1 dX1_countWith_35 ?_
          refine z_eq (tgt := 47) S dX1_countWith_38 (by decide) (fun h4 => ?_) (fun h4 => ?_)
          · refine lv_iload_n S.1 S.2.1 dX1_countWith_47 rfl (lv_at hl 1 rfl) ?_
            refine lv_istore_n (lv' := [(3, .int (nI (cnt (cwB (ansB on rl fi se n) v p1) N))), (4, .int (nI N)), (0, .ref (b 0)), (1, .int (nI v)), (2, .int p1)]) S.1 S.2.1 dX1_countWith_48 rfl hl (by decide) rfl (fun ls hl => ?_)
            refine n_iinc (x := N) (k := 1) (lv' := [(4, .int (nI (N + 1))), (3, .int (nI (cnt (cwB (ansB on rl fi se n) v p1) N))), (0, .ref (b 0)), (1, .int (nI v)), (2, .int p1)]) S dX1_countWith_49 hl rfl (by decide) rfl (fun ls hl => ?_)
            refine lv_goto (tgt := 5) S.1 S.2.1 dX1_countWith_52 (by decide) ?_
            exact ih (N + 1) ls ⟨by rw [cnt_f (f := cwB (ansB on rl fi se n) v p1) (by simp [cwB, h4])]; exact lv_sub hl [0, 1, 2, 3, 4] rfl, by omega⟩ (by omega)
          · refine lv_iload_n S.1 S.2.1 dX1_countWith_41 rfl (lv_at hl 1 rfl) ?_
            refine lv_iconst (v := (nI 1)) S.1 S.2.1 dX1_countWith_42 (by decide) ?_
            refine n_iadd S dX1_countWith_43 ?_
            refine lv_goto (tgt := 48) S.1 S.2.1 dX1_countWith_44 (by decide) ?_
            refine lv_istore_n (lv' := [(3, .int (nI ((cnt (cwB (ansB on rl fi se n) v p1) N) + 1))), (4, .int (nI N)), (0, .ref (b 0)), (1, .int (nI v)), (2, .int p1)]) S.1 S.2.1 dX1_countWith_48 rfl hl (by decide) rfl (fun ls hl => ?_)
            refine n_iinc (x := N) (k := 1) (lv' := [(4, .int (nI (N + 1))), (3, .int (nI ((cnt (cwB (ansB on rl fi se n) v p1) N) + 1))), (0, .ref (b 0)), (1, .int (nI v)), (2, .int p1)]) S dX1_countWith_49 hl rfl (by decide) rfl (fun ls hl => ?_)
            refine lv_goto (tgt := 5) S.1 S.2.1 dX1_countWith_52 (by decide) ?_
            exact ih (N + 1) ls ⟨by rw [cnt_t (f := cwB (ansB on rl fi se n) v p1) (by simp [cwB, h3, h4])]; exact lv_sub hl [0, 1, 2, 3, 4] rfl, by omega⟩ (by omega)
theorem mM_holds (l : Launch) (hP : va_P D vwCl (mw b cI cZ on rl fi se n sn) H) (p0 : Int32) (hI : XI on bk rl fi se n) : Met l yX1_holds (ws_ yX1_holds cX1_holds 2 (some .boolean)) (rmK 2) (va_Pc [.ref (b 0), .int p0] (fun U => U.heap = H ∧ va_K D vwCl (tM cI cZ) U)) (QcRead ((bI (hoV (ansB on rl fi se n) p0)))) 0 0 (fun _ => False) := by
  refine anyMet (by decide) (Nat.le_of_ble_eq_true rfl) (fun p e s m below meth c S hr hlk hin hH hK ls hl => ?_)
  have S : CallFix p m c cX1_holds 2 s _ lw_all RX1 := S
  have hl : lv_has ls 2 [(0, .ref (b 0)), (1, .int p0)] := hl
  refine lv_iload_n S.1 S.2.1 dX1_holds_0 rfl (lv_at hl 1 rfl) ?_
  refine lv_if_lt (tgt := 23) S.1 S.2.1 dX1_holds_1 (by decide) (fun h0 => ?_) (fun h0 => ?_)
  · refine lv_iconst (v := (bI false)) S.1 S.2.1 dX1_holds_23 (by decide) ?_
    exact r_bool S hr hlk hH (by unfold hoV; rw [inR_neg h0]; rfl) dX1_holds_24
  · refine lv_iload_n S.1 S.2.1 dX1_holds_4 rfl (lv_at hl 1 rfl) ?_
    refine lv_sipush (v := (nI 4096)) S.1 S.2.1 dX1_holds_5 (by decide) ?_
    refine lv_icmp_ge (tgt := 23) S.1 S.2.1 dX1_holds_8 (by decide) (fun h1 => ?_) (fun h1 => ?_)
    · refine lv_iconst (v := (bI false)) S.1 S.2.1 dX1_holds_23 (by decide) ?_
      exact r_bool S hr hlk hH (by unfold hoV; rw [inR_big h1]; rfl) dX1_holds_24
    · have h5 := inR_in h0 h1
      obtain ⟨q, hq, rfl⟩ := inR_t (by decide) h5
      refine lv_aload_n S.1 S.2.1 dX1_holds_11 rfl (lv_at hl 0 rfl) ?_
      refine lv_iload_n S.1 S.2.1 dX1_holds_12 rfl (lv_at hl 1 rfl) ?_
      refine kM_isAnswer S hK hP (N := q) hI hq hl.1 dX1_holds_13 ?_
      refine z_eq (tgt := 23) S dX1_holds_16 (by decide) (fun h2 => ?_) (fun h2 => ?_)
      · refine lv_iconst (v := (bI false)) S.1 S.2.1 dX1_holds_23 (by decide) ?_
        exact r_bool S hr hlk hH (by unfold hoV; rw [h5, nI_clamp (by omega), h2]; rfl) dX1_holds_24
      · refine lv_iconst (v := (bI true)) S.1 S.2.1 dX1_holds_19 (by decide) ?_
        refine lv_goto (tgt := 24) S.1 S.2.1 dX1_holds_20 (by decide) ?_
        exact r_bool S hr hlk hH (by unfold hoV; rw [h5, nI_clamp (by omega), h2]; rfl) dX1_holds_24
theorem mM_pairs (l : Launch) (hP : va_P D vwCl (mw b cI cZ on rl fi se n sn) H) (hA : xAp b 6) (p0 : Int32) (p1 : Int32) (hI : XI on bk rl fi se n) : Met l yX1_pairs (ws_ yX1_pairs cX1_pairs 6 (some .int)) (rmK 2) (va_Pc [.ref (b 0), .int p0, .int p1] (fun U => U.heap = H ∧ va_K D vwCl (tM cI cZ) U)) (MQ_ D b cI cZ (some (.int (nI (paV (ansB on rl fi se n) p0 p1)))) on rl fi se n) 0 0 (xA b 6) := by
  refine anyMet (by decide) (Nat.le_of_ble_eq_true rfl) (fun p e s m below meth c S hr hlk hin hH hK ls hl => ?_)
  have S : CallFix p m c cX1_pairs 6 s _ lw_all RX1 := S
  have hl : lv_has ls 6 [(0, .ref (b 0)), (1, .int p0), (2, .int p1)] := hl
  have hS : va_S (xA b 6) s.heap H [] := by rw [hH]; exact va_S.rf
  have hI0 := hI
  refine lv_iconst (v := (nI 0)) S.1 S.2.1 dX1_pairs_0 (by decide) ?_
  refine lv_istore_n (lv' := [(3, .int (nI 0)), (0, .ref (b 0)), (1, .int p0), (2, .int p1)]) S.1 S.2.1 dX1_pairs_1 rfl hl (by decide) rfl (fun ls hl => ?_)
  refine loopW2 (α := Nat) (β := Nat → Bool) (fun k sn H locs ls => lv_has ls 6 [(3, .int (nI k)), (0, .ref (b 0)), (1, .int p0), (2, .int p1)] ∧ va_P D vwCl (mw b cI cZ on rl fi se n sn) H ∧ va_S (xA b 6) s.heap H locs ∧ k ≤ 64 ∧ ∀ j, j < k → sn j = false) (fun k sn => 64 - k) (fun k sn H locs ls hJ ih => ?_) 0 sn H [] ls ⟨lv_sub hl [0, 1, 2, 3] rfl, hP, hS, by decide, fun j hj => absurd hj (Nat.not_lt_zero j)⟩
  obtain ⟨hl, hP, hS, hk, hsn⟩ := hJ
  refine lv_iload_n S.1 S.2.1 dX1_pairs_2 rfl (lv_at hl 0 rfl) ?_
  refine lv_bipush (v := (nI 64)) S.1 S.2.1 dX1_pairs_3 (by decide) ?_
  refine n_ge (tgt := 21) S dX1_pairs_5 (by decide) (fun g1 => ?_) (fun g1 => ?_)
  · have e64 : k = 64 := by omega
    subst e64
    rcases bcase (inR p0 4 && inR p1 4) with h0 | h0
    · have hz : 0 = paV (ansB on rl fi se n) p0 p1 := by
        unfold paV paS
        rw [h0]
        exact (cnt_zero 64 (fun i _ => by simp)).symm
      refine lv_iconst (v := (nI 0)) S.1 S.2.1 dX1_pairs_21 (by decide) ?_
      refine lv_istore_n (lv' := [(3, .int (nI 0)), (0, .ref (b 0)), (1, .int p0), (2, .int p1)]) S.1 S.2.1 dX1_pairs_22 rfl hl (by decide) rfl (fun ls hl => ?_)
      refine lv_iconst (v := (nI 0)) S.1 S.2.1 dX1_pairs_23 (by decide) ?_
      refine lv_istore (lv' := [(4, .int (nI 0)), (3, .int (nI 0)), (0, .ref (b 0)), (1, .int p0), (2, .int p1)]) S.1 S.2.1 dX1_pairs_24 hl (by decide) rfl (fun ls hl => ?_)
      refine lv_iload S.1 S.2.1 dX1_pairs_26 (lv_at hl 0 rfl) ?_
      refine lv_sipush (v := (nI 4096)) S.1 S.2.1 dX1_pairs_28 (by decide) ?_
      refine n_ge (tgt := 106) S dX1_pairs_31 (by decide) (fun h1 => ?_) (fun h1 => ?_)
      · exact absurd h1 (by decide)
      · refine lv_aload_n S.1 S.2.1 dX1_pairs_34 rfl (lv_at hl 2 rfl) ?_
        refine lv_iload_n S.1 S.2.1 dX1_pairs_35 rfl (lv_at hl 3 rfl) ?_
        refine kM_variable S hK hP (p0 := p0) hl.1 dX1_pairs_36 ?_
        refine z_eq (tgt := 106) S dX1_pairs_39 (by decide) (fun h2 => ?_) (fun h2 => ?_)
        · refine lv_iload_n S.1 S.2.1 dX1_pairs_106 rfl (lv_at hl 1 rfl) ?_
          exact mr_int S hr hlk hP hS (congrArg nI hz) dX1_pairs_107
        · refine lv_aload_n S.1 S.2.1 dX1_pairs_42 rfl (lv_at hl 2 rfl) ?_
          refine lv_iload_n S.1 S.2.1 dX1_pairs_43 rfl (lv_at hl 4 rfl) ?_
          refine kM_variable S hK hP (p0 := p1) hl.1 dX1_pairs_44 ?_
          refine z_eq (tgt := 106) S dX1_pairs_47 (by decide) (fun h3 => ?_) (fun h3 => ?_)
          · refine lv_iload_n S.1 S.2.1 dX1_pairs_106 rfl (lv_at hl 1 rfl) ?_
            exact mr_int S hr hlk hP hS (congrArg nI hz) dX1_pairs_107
          · rw [h2, h3] at h0; cases h0
    · have h9 := h0
      rw [Bool.and_eq_true] at h9
      obtain ⟨ha, hb⟩ := h9
      obtain ⟨v, hv, rfl⟩ := inR_t (by decide) ha
      obtain ⟨w, hw, rfl⟩ := inR_t (by decide) hb
      refine lv_iconst (v := (nI 0)) S.1 S.2.1 dX1_pairs_21 (by decide) ?_
      refine lv_istore_n (lv' := [(3, .int (nI 0)), (0, .ref (b 0)), (1, .int (nI v)), (2, .int (nI w))]) S.1 S.2.1 dX1_pairs_22 rfl hl (by decide) rfl (fun ls hl => ?_)
      refine lv_iconst (v := (nI 0)) S.1 S.2.1 dX1_pairs_23 (by decide) ?_
      refine lv_istore (lv' := [(4, .int (nI 0)), (3, .int (nI 0)), (0, .ref (b 0)), (1, .int (nI v)), (2, .int (nI w))]) S.1 S.2.1 dX1_pairs_24 hl (by decide) rfl (fun ls hl => ?_)
      refine loopW2 (α := Nat) (β := Nat → Bool) (fun N sn H locs ls => lv_has ls 6 [(4, .int (nI N)), (3, .int (nI (cnt (fun k => (pset (ansB on rl fi se n) v w N).testBit k) 64))), (0, .ref (b 0)), (1, .int (nI v)), (2, .int (nI w))] ∧ va_P D vwCl (mw b cI cZ on rl fi se n sn) H ∧ va_S (xA b 6) s.heap H locs ∧ N ≤ 4096 ∧ ∀ j, j < 64 → sn j = (pset (ansB on rl fi se n) v w N).testBit j) (fun N sn => 4096 - N) (fun N sn H locs ls hJ ih => ?_) 0 sn H locs ls ⟨by rw [cnt_zero (f := fun k => (pset (ansB on rl fi se n) v w 0).testBit k) 64 (fun i _ => Nat.zero_testBit i)]; exact lv_sub hl [0, 1, 2, 3, 4] rfl, hP, hS, by decide, fun j hj => by rw [hsn j hj]; exact (Nat.zero_testBit j).symm⟩
      obtain ⟨hl, hP, hS, hN, hsn⟩ := hJ
      refine lv_iload S.1 S.2.1 dX1_pairs_26 (lv_at hl 0 rfl) ?_
      refine lv_sipush (v := (nI 4096)) S.1 S.2.1 dX1_pairs_28 (by decide) ?_
      refine n_ge (tgt := 106) S dX1_pairs_31 (by decide) (fun h1 => ?_) (fun h1 => ?_)
      · have e9 : N = 4096 := by omega
        subst e9
        refine lv_iload_n S.1 S.2.1 dX1_pairs_106 rfl (lv_at hl 1 rfl) ?_
        exact mr_int S hr hlk hP hS (by unfold paV paS; rw [if_pos h0, nI_clamp (by omega), nI_clamp (by omega)]) dX1_pairs_107
      · refine lv_aload_n S.1 S.2.1 dX1_pairs_34 rfl (lv_at hl 2 rfl) ?_
        refine lv_iload_n S.1 S.2.1 dX1_pairs_35 rfl (lv_at hl 3 rfl) ?_
        refine kM_variable S hK hP (p0 := nI v) hl.1 dX1_pairs_36 ?_
        refine z_eq (tgt := 106) S dX1_pairs_39 (by decide) (fun h2 => ?_) (fun h2 => ?_)
        · rw [ha] at h2; cases h2
        · refine lv_aload_n S.1 S.2.1 dX1_pairs_42 rfl (lv_at hl 2 rfl) ?_
          refine lv_iload_n S.1 S.2.1 dX1_pairs_43 rfl (lv_at hl 4 rfl) ?_
          refine kM_variable S hK hP (p0 := nI w) hl.1 dX1_pairs_44 ?_
          refine z_eq (tgt := 106) S dX1_pairs_47 (by decide) (fun h3 => ?_) (fun h3 => ?_)
          · rw [hb] at h3; cases h3
          · have b1 := plc_lt v w N
            refine lv_bipush (v := (nI 8)) S.1 S.2.1 dX1_pairs_50 (by decide) ?_
            refine lv_aload_n S.1 S.2.1 dX1_pairs_52 rfl (lv_at hl 2 rfl) ?_
            refine lv_iload S.1 S.2.1 dX1_pairs_53 (lv_at hl 0 rfl) ?_
            refine lv_iload_n S.1 S.2.1 dX1_pairs_55 rfl (lv_at hl 3 rfl) ?_
            refine kM_of S hK hP (k := N) (d := v) (by omega) hv hl.1 dX1_pairs_56 ?_
            refine n_imul S dX1_pairs_59 ?_
            refine lv_aload_n S.1 S.2.1 dX1_pairs_60 rfl (lv_at hl 2 rfl) ?_
            refine lv_iload S.1 S.2.1 dX1_pairs_61 (lv_at hl 0 rfl) ?_
            refine lv_iload_n S.1 S.2.1 dX1_pairs_63 rfl (lv_at hl 4 rfl) ?_
            refine kM_of S hK hP (k := N) (d := w) (by omega) hw hl.1 dX1_pairs_64 ?_
            refine n_iadd S dX1_pairs_67 ?_
            refine n_top (y := (nI (plc v w N))) rfl ?_
            refine lv_istore (lv' := [(5, .int (nI (plc v w N))), (4, .int (nI N)), (3, .int (nI (cnt (fun k => (pset (ansB on rl fi se n) v w N).testBit k) 64))), (0, .ref (b 0)), (1, .int (nI v)), (2, .int (nI w))]) S.1 S.2.1 dX1_pairs_68 hl (by decide) rfl (fun ls hl => ?_)
            refine lv_aload_n S.1 S.2.1 dX1_pairs_70 rfl (lv_at hl 3 rfl) ?_
            refine lv_iload S.1 S.2.1 dX1_pairs_71 (lv_at hl 1 rfl) ?_
            refine kM_isAnswer S hK hP (N := N) hI (by omega) hl.1 dX1_pairs_73 ?_
            refine z_eq (tgt := 100) S dX1_pairs_76 (by decide) (fun h4 => ?_) (fun h4 => ?_)
            · refine n_iinc (x := N) (k := 1) (lv' := [(4, .int (nI (N + 1))), (5, .int (nI (plc v w N))), (3, .int (nI (cnt (fun k => (pset (ansB on rl fi se n) v w N).testBit k) 64))), (0, .ref (b 0)), (1, .int (nI v)), (2, .int (nI w))]) S dX1_pairs_100 hl rfl (by decide) rfl (fun ls hl => ?_)
              refine lv_goto (tgt := 26) S.1 S.2.1 dX1_pairs_103 (by decide) ?_
              exact ih (N + 1) sn H locs ls ⟨by rw [pset_f h4]; exact lv_sub hl [0, 2, 3, 4, 5] rfl, hP, hS, by omega, fun j hj => by rw [pset_f h4]; exact hsn j hj⟩ (by omega)
            · refine lv_aload_n S.1 S.2.1 dX1_pairs_79 rfl (lv_at hl 3 rfl) ?_
              refine gM_sn S hK hP dX1_pairs_80 ?_
              refine lv_iload S.1 S.2.1 dX1_pairs_83 (lv_at hl 0 rfl) ?_
              refine lM_sn S hK hP (by omega) dX1_pairs_85 ?_
              refine z_ne (tgt := 100) S dX1_pairs_86 (by decide) (fun h5 => ?_) (fun h5 => ?_)
              · have h6 : (pset (ansB on rl fi se n) v w N).testBit (plc v w N) = true := by rw [← hsn _ b1]; exact h5
                have h7 : ∀ j, (pset (ansB on rl fi se n) v w (N + 1)).testBit j = (pset (ansB on rl fi se n) v w N).testBit j := fun j => by
                  rw [pset_bit h4]
                  by_cases e : plc v w N = j
                  · rw [← e, h6]; rfl
                  · simp [e]
                refine n_iinc (x := N) (k := 1) (lv' := [(4, .int (nI (N + 1))), (5, .int (nI (plc v w N))), (3, .int (nI (cnt (fun k => (pset (ansB on rl fi se n) v w N).testBit k) 64))), (0, .ref (b 0)), (1, .int (nI v)), (2, .int (nI w))]) S dX1_pairs_100 hl rfl (by decide) rfl (fun ls hl => ?_)
                refine lv_goto (tgt := 26) S.1 S.2.1 dX1_pairs_103 (by decide) ?_
                exact ih (N + 1) sn H locs ls ⟨by rw [cnt_congr 64 (fun j _ => h7 j)]; exact lv_sub hl [0, 2, 3, 4, 5] rfl, hP, hS, by omega, fun j hj => by rw [h7]; exact hsn j hj⟩ (by omega)
              · have h6 : (pset (ansB on rl fi se n) v w N).testBit (plc v w N) = false := by rw [← hsn _ b1]; exact h5
                have h8 : cnt (fun k => (pset (ansB on rl fi se n) v w (N + 1)).testBit k) 64 = cnt (fun k => (pset (ansB on rl fi se n) v w N).testBit k) 64 + 1 := by
                  rw [cnt_congr 64 (fun j _ => pset_bit h4), cnt_set (f := fun k => (pset (ansB on rl fi se n) v w N).testBit k) h6 64, if_pos b1]
                refine lv_aload_n S.1 S.2.1 dX1_pairs_89 rfl (lv_at hl 3 rfl) ?_
                refine gM_sn S hK hP dX1_pairs_90 ?_
                refine lv_iload S.1 S.2.1 dX1_pairs_93 (lv_at hl 0 rfl) ?_
                refine lv_iconst (v := (bI true)) S.1 S.2.1 dX1_pairs_95 (by decide) ?_
                refine sM_sn S hK hP hA hS (by omega) dX1_pairs_96 (fun H locs hP hS => ?_)
                refine n_iinc (x := cnt (fun k => (pset (ansB on rl fi se n) v w N).testBit k) 64) (k := 2) (lv' := [(3, .int (nI (cnt (fun k => (pset (ansB on rl fi se n) v w N).testBit k) 64 + 1))), (5, .int (nI (plc v w N))), (4, .int (nI N)), (0, .ref (b 0)), (1, .int (nI v)), (2, .int (nI w))]) S dX1_pairs_97 hl rfl (by decide) rfl (fun ls hl => ?_)
                refine n_iinc (x := N) (k := 2) (lv' := [(4, .int (nI (N + 1))), (3, .int (nI (cnt (fun k => (pset (ansB on rl fi se n) v w N).testBit k) 64 + 1))), (5, .int (nI (plc v w N))), (0, .ref (b 0)), (1, .int (nI v)), (2, .int (nI w))]) S dX1_pairs_100 hl rfl (by decide) rfl (fun ls hl => ?_)
                refine lv_goto (tgt := 26) S.1 S.2.1 dX1_pairs_103 (by decide) ?_
                refine ih (N + 1) (va_up sn (plc v w N) true) H locs ls ⟨by rw [h8]; exact lv_sub hl [0, 1, 3, 4, 5] rfl, hP, hS, by omega, fun j hj => ?_⟩ (by omega)
                rw [pset_bit h4]
                unfold va_up
                by_cases e : j = plc v w N
                · rw [if_pos e]; simp [e]
                · rw [if_neg e, hsn j hj]
                  have e2 : ¬ plc v w N = j := fun q => e q.symm
                  simp [e2]
  · refine lv_aload_n S.1 S.2.1 dX1_pairs_8 rfl (lv_at hl 1 rfl) ?_
    refine gM_sn S hK hP dX1_pairs_9 ?_
    refine lv_iload_n S.1 S.2.1 dX1_pairs_12 rfl (lv_at hl 0 rfl) ?_
    refine lv_iconst (v := (bI false)) S.1 S.2.1 dX1_pairs_13 (by decide) ?_
    refine sM_sn S hK hP hA hS (by omega) dX1_pairs_14 (fun H locs hP hS => ?_)
    refine n_iinc (x := k) (k := 0) (lv' := [(3, .int (nI (k + 1))), (0, .ref (b 0)), (1, .int p0), (2, .int p1)]) S dX1_pairs_15 hl rfl (by decide) rfl (fun ls hl => ?_)
    refine lv_goto (tgt := 2) S.1 S.2.1 dX1_pairs_18 (by decide) ?_
    refine ih (k + 1) (va_up sn k false) H locs ls ⟨lv_sub hl [0, 1, 2, 3] rfl, hP, hS, by omega, fun j hj => ?_⟩ (by omega)
    unfold va_up; split
    · rfl
    · exact hsn j (by omega)
theorem mM_loss (l : Launch) (hP : va_P D vwCl (mw b cI cZ on rl fi se n sn) H) (hA : xAp b 6) (p0 : Int32) (p1 : Int32) (p2 : Int32) (hI : XI on bk rl fi se n) : Met l yX1_loss (ws_ yX1_loss cX1_loss 6 (some .int)) (rmK 3) (va_Pc [.ref (b 0), .int p0, .int p1, .int p2] (fun U => U.heap = H ∧ va_K D vwCl (tM cI cZ) U)) (MQ_ D b cI cZ (some (.int (loV on rl fi se n p0 p1 p2))) on rl fi se n) 0 0 (xA b 6) := by
  refine anyMet (by decide) (Nat.le_of_ble_eq_true rfl) (fun p e s m below meth c S hr hlk hin hH hK ls hl => ?_)
  have S : CallFix p m c cX1_loss 6 s _ lw_all RX1 := S
  have hl : lv_has ls 6 [(0, .ref (b 0)), (1, .int p0), (2, .int p1), (3, .int p2)] := hl
  have hS : va_S (xA b 6) s.heap H [] := by rw [hH]; exact va_S.rf
  have hI0 := hI
  have hon := hI.1
  refine lv_aload_n S.1 S.2.1 dX1_loss_0 rfl (lv_at hl 0 rfl) ?_
  refine lv_iload_n S.1 S.2.1 dX1_loss_1 rfl (lv_at hl 1 rfl) ?_
  refine kM_relation S hK hP (p0 := p0) hl.1 dX1_loss_2 ?_
  refine z_eq (tgt := 24) S dX1_loss_5 (by decide) (fun h1 => ?_) (fun h1 => ?_)
  · have ok : prOk p0 p1 p2 = false := by simp [prOk, h1]
    refine lv_iconst (v := (-1)) S.1 S.2.1 dX1_loss_24 (by decide) ?_
    exact mr_int S hr hlk hP hS (by simp [loV, ok]) dX1_loss_25
  · refine lv_aload_n S.1 S.2.1 dX1_loss_8 rfl (lv_at hl 0 rfl) ?_
    refine lv_iload_n S.1 S.2.1 dX1_loss_9 rfl (lv_at hl 2 rfl) ?_
    refine kM_thing S hK hP (p0 := p1) hl.1 dX1_loss_10 ?_
    refine z_eq (tgt := 24) S dX1_loss_13 (by decide) (fun h2 => ?_) (fun h2 => ?_)
    · have ok : prOk p0 p1 p2 = false := by simp [prOk, h1, h2]
      refine lv_iconst (v := (-1)) S.1 S.2.1 dX1_loss_24 (by decide) ?_
      exact mr_int S hr hlk hP hS (by simp [loV, ok]) dX1_loss_25
    · refine lv_aload_n S.1 S.2.1 dX1_loss_16 rfl (lv_at hl 0 rfl) ?_
      refine lv_iload_n S.1 S.2.1 dX1_loss_17 rfl (lv_at hl 3 rfl) ?_
      refine kM_thing S hK hP (p0 := p2) hl.1 dX1_loss_18 ?_
      refine z_ne (tgt := 26) S dX1_loss_21 (by decide) (fun h3 => ?_) (fun h3 => ?_)
      · obtain ⟨r, e1, rfl⟩ := inR_t (by decide) h1
        obtain ⟨x, e2, rfl⟩ := inR_t (by decide) h2
        obtain ⟨y, e3, rfl⟩ := inR_t (by decide) h3
        have ok := prOk_n e1 e2 e3
        have c1 := hon (r * 8 + x)
        refine lv_aload_n S.1 S.2.1 dX1_loss_26 rfl (lv_at hl 0 rfl) ?_
        refine lv_iload_n S.1 S.2.1 dX1_loss_27 rfl (lv_at hl 1 rfl) ?_
        refine lv_iload_n S.1 S.2.1 dX1_loss_28 rfl (lv_at hl 2 rfl) ?_
        refine lv_iload_n S.1 S.2.1 dX1_loss_29 rfl (lv_at hl 3 rfl) ?_
        refine kM_in S hK hP (r := r) (x := x) (y := y) hI0 e1 e2 e3 hl.1 dX1_loss_30 ?_
        refine z_ne (tgt := 38) S dX1_loss_33 (by decide) (fun h5 => ?_) (fun h5 => ?_)
        · refine lv_aload_n S.1 S.2.1 dX1_loss_38 rfl (lv_at hl 0 rfl) ?_
          refine kM_count S hK hP hI0 hl.1 dX1_loss_39 ?_
          refine lv_istore (lv' := [(4, .int (nI (cnt (ansB on rl fi se n) 4096))), (0, .ref (b 0)), (1, .int (nI r)), (2, .int (nI x)), (3, .int (nI y))]) S.1 S.2.1 dX1_loss_42 hl (by decide) rfl (fun ls hl => ?_)
          refine lv_aload_n S.1 S.2.1 dX1_loss_44 rfl (lv_at hl 1 rfl) ?_
          refine lv_iload_n S.1 S.2.1 dX1_loss_45 rfl (lv_at hl 2 rfl) ?_
          refine lv_iload_n S.1 S.2.1 dX1_loss_46 rfl (lv_at hl 3 rfl) ?_
          refine lv_iload_n S.1 S.2.1 dX1_loss_47 rfl (lv_at hl 4 rfl) ?_
          refine lv_iconst (v := (bI false)) S.1 S.2.1 dX1_loss_48 (by decide) ?_
          refine kM_pair S hK hP hA (p0 := nI r) (p1 := nI x) (p2 := nI y) (f := false) hI0 hS (fun q h => h) hl.1 dX1_loss_49 (fun H locs sn hP _ hS => ?_)
          have hI1 := XI_pr (p0 := nI r) (p1 := nI x) (p2 := nI y) (f := false) hI0
          refine lv_pop S.1 S.2.1 dX1_loss_52 rfl ?_
          refine lv_aload_n S.1 S.2.1 dX1_loss_53 rfl (lv_at hl 1 rfl) ?_
          refine kM_count S hK hP hI1 hl.1 dX1_loss_54 ?_
          refine lv_istore (lv' := [(5, .int (nI (cnt (ansB (prOn on (nI r) (nI x) (nI y) false) rl fi se n) 4096))), (4, .int (nI (cnt (ansB on rl fi se n) 4096))), (0, .ref (b 0)), (1, .int (nI r)), (2, .int (nI x)), (3, .int (nI y))]) S.1 S.2.1 dX1_loss_57 hl (by decide) rfl (fun ls hl => ?_)
          refine lv_aload_n S.1 S.2.1 dX1_loss_59 rfl (lv_at hl 2 rfl) ?_
          refine lv_iload_n S.1 S.2.1 dX1_loss_60 rfl (lv_at hl 3 rfl) ?_
          refine lv_iload_n S.1 S.2.1 dX1_loss_61 rfl (lv_at hl 4 rfl) ?_
          refine lv_iload_n S.1 S.2.1 dX1_loss_62 rfl (lv_at hl 5 rfl) ?_
          refine lv_iconst (v := (bI true)) S.1 S.2.1 dX1_loss_63 (by decide) ?_
          refine kM_pair S hK hP hA (p0 := nI r) (p1 := nI x) (p2 := nI y) (f := true) hI1 hS (fun q h => h) hl.1 dX1_loss_64 (fun H locs sn hP _ hS => ?_)
          rw [prOn_n (on := prOn on (nI r) (nI x) (nI y) false) e1 e2 e3, prOn_n e1 e2 e3, put_back h5 c1 e3 rfl] at hP
          refine lv_pop S.1 S.2.1 dX1_loss_67 rfl ?_
          refine lv_iload S.1 S.2.1 dX1_loss_68 (lv_at hl 1 rfl) ?_
          refine lv_iload S.1 S.2.1 dX1_loss_70 (lv_at hl 0 rfl) ?_
          refine lv_isub S.1 S.2.1 dX1_loss_72 ?_
          exact mr_int S hr hlk hP hS (by unfold loV; rw [if_pos ok, nI_clamp (n := r) (by omega), nI_clamp (n := x) (by omega), nI_clamp (n := y) (by omega), if_pos h5]) dX1_loss_73
        · refine lv_iconst (v := (nI 0)) S.1 S.2.1 dX1_loss_36 (by decide) ?_
          exact mr_int S hr hlk hP hS (by unfold loV; rw [if_pos ok, nI_clamp (by omega), nI_clamp (by omega), nI_clamp (by omega), h5]; rfl) dX1_loss_37
      · have ok : prOk p0 p1 p2 = false := by simp [prOk, h1, h2, h3]
        refine lv_iconst (v := (-1)) S.1 S.2.1 dX1_loss_24 (by decide) ?_
        exact mr_int S hr hlk hP hS (by simp [loV, ok]) dX1_loss_25
theorem mM_partners (l : Launch) (hP : va_P D vwCl (mw b cI cZ on rl fi se n sn) H) (p0 : Int32) (p1 : Int32) (p2 : Int32) (hI : XI on bk rl fi se n) : Met l yX1_partners (ws_ yX1_partners cX1_partners 7 (some .int)) (rmK 1) (va_Pc [.ref (b 0), .int p0, .int p1, .int p2] (fun U => U.heap = H ∧ va_K D vwCl (tM cI cZ) U)) (QcRead ((ptV on bk p0 p1 p2))) 0 0 (fun _ => False) := by
  refine anyMet (by decide) (Nat.le_of_ble_eq_true rfl) (fun p e s m below meth c S hr hlk hin hH hK ls hl => ?_)
  have S : CallFix p m c cX1_partners 7 s _ lw_all RX1 := S
  have hl : lv_has ls 7 [(0, .ref (b 0)), (1, .int p0), (2, .int p1), (3, .int p2)] := hl
  have hI0 := hI
  rcases bcase (inR p0 3 && inR p1 8) with h0 | h0
  · refine lv_iconst (v := (nI 0)) S.1 S.2.1 dX1_partners_0 (by decide) ?_
    refine lv_istore (lv' := [(4, .int (nI 0)), (0, .ref (b 0)), (1, .int p0), (2, .int p1), (3, .int p2)]) S.1 S.2.1 dX1_partners_1 hl (by decide) rfl (fun ls hl => ?_)
    refine lv_iconst (v := (nI 0)) S.1 S.2.1 dX1_partners_3 (by decide) ?_
    refine lv_istore (lv' := [(5, .int (nI 0)), (4, .int (nI 0)), (0, .ref (b 0)), (1, .int p0), (2, .int p1), (3, .int p2)]) S.1 S.2.1 dX1_partners_4 hl (by decide) rfl (fun ls hl => ?_)
    refine lv_iload S.1 S.2.1 dX1_partners_6 (lv_at hl 0 rfl) ?_
    refine lv_bipush (v := (nI 8)) S.1 S.2.1 dX1_partners_8 (by decide) ?_
    refine n_ge (tgt := 92) S dX1_partners_10 (by decide) (fun h1 => ?_) (fun h1 => ?_)
    · exact absurd h1 (by decide)
    · refine lv_aload_n S.1 S.2.1 dX1_partners_13 rfl (lv_at hl 2 rfl) ?_
      refine lv_iload_n S.1 S.2.1 dX1_partners_14 rfl (lv_at hl 3 rfl) ?_
      refine kM_relation S hK hP (p0 := p0) hl.1 dX1_partners_15 ?_
      refine z_eq (tgt := 92) S dX1_partners_18 (by decide) (fun h2 => ?_) (fun h2 => ?_)
      · refine lv_iload S.1 S.2.1 dX1_partners_92 (lv_at hl 1 rfl) ?_
        exact r_int S hr hlk hH (pt_none h0) dX1_partners_94
      · refine lv_aload_n S.1 S.2.1 dX1_partners_21 rfl (lv_at hl 2 rfl) ?_
        refine lv_iload_n S.1 S.2.1 dX1_partners_22 rfl (lv_at hl 4 rfl) ?_
        refine kM_thing S hK hP (p0 := p1) hl.1 dX1_partners_23 ?_
        refine z_eq (tgt := 92) S dX1_partners_26 (by decide) (fun h3 => ?_) (fun h3 => ?_)
        · refine lv_iload S.1 S.2.1 dX1_partners_92 (lv_at hl 1 rfl) ?_
          exact r_int S hr hlk hH (pt_none h0) dX1_partners_94
        · rw [h2, h3] at h0; cases h0
  · have h9 := h0
    rw [Bool.and_eq_true] at h9
    obtain ⟨ha, hb⟩ := h9
    obtain ⟨r, e1, rfl⟩ := inR_t (by decide) ha
    obtain ⟨x, e2, rfl⟩ := inR_t (by decide) hb
    refine lv_iconst (v := (nI 0)) S.1 S.2.1 dX1_partners_0 (by decide) ?_
    refine lv_istore (lv' := [(4, .int (nI 0)), (0, .ref (b 0)), (1, .int (nI r)), (2, .int (nI x)), (3, .int p2)]) S.1 S.2.1 dX1_partners_1 hl (by decide) rfl (fun ls hl => ?_)
    refine lv_iconst (v := (nI 0)) S.1 S.2.1 dX1_partners_3 (by decide) ?_
    refine lv_istore (lv' := [(5, .int (nI 0)), (4, .int (nI 0)), (0, .ref (b 0)), (1, .int (nI r)), (2, .int (nI x)), (3, .int p2)]) S.1 S.2.1 dX1_partners_4 hl (by decide) rfl (fun ls hl => ?_)
    refine loopR (α := Nat) (fun y ls => lv_has ls 7 [(5, .int (nI y)), (4, .int (nI (pw (ptB on r x p2) y))), (0, .ref (b 0)), (1, .int (nI r)), (2, .int (nI x)), (3, .int p2)] ∧ y ≤ 8) (fun y => 8 - y) (fun y ls hJ ih => ?_) 0 ls ⟨lv_sub hl [0, 1, 2, 3, 4, 5] rfl, by decide⟩
    obtain ⟨hl, hy⟩ := hJ
    refine lv_iload S.1 S.2.1 dX1_partners_6 (lv_at hl 0 rfl) ?_
    refine lv_bipush (v := (nI 8)) S.1 S.2.1 dX1_partners_8 (by decide) ?_
    refine n_ge (tgt := 92) S dX1_partners_10 (by decide) (fun h1 => ?_) (fun h1 => ?_)
    · have e9 : y = 8 := by omega
      subst e9
      refine lv_iload S.1 S.2.1 dX1_partners_92 (lv_at hl 1 rfl) ?_
      exact r_int S hr hlk hH (pt_fin hI0 e1 e2) dX1_partners_94
    · refine lv_aload_n S.1 S.2.1 dX1_partners_13 rfl (lv_at hl 2 rfl) ?_
      refine lv_iload_n S.1 S.2.1 dX1_partners_14 rfl (lv_at hl 3 rfl) ?_
      refine kM_relation S hK hP (p0 := nI r) hl.1 dX1_partners_15 ?_
      refine z_eq (tgt := 92) S dX1_partners_18 (by decide) (fun h2 => ?_) (fun h2 => ?_)
      · rw [ha] at h2; cases h2
      · refine lv_aload_n S.1 S.2.1 dX1_partners_21 rfl (lv_at hl 2 rfl) ?_
        refine lv_iload_n S.1 S.2.1 dX1_partners_22 rfl (lv_at hl 4 rfl) ?_
        refine kM_thing S hK hP (p0 := nI x) hl.1 dX1_partners_23 ?_
        refine z_eq (tgt := 92) S dX1_partners_26 (by decide) (fun h3 => ?_) (fun h3 => ?_)
        · rw [hb] at h3; cases h3
        · refine lv_iload_n S.1 S.2.1 dX1_partners_29 rfl (lv_at hl 5 rfl) ?_
          refine lv_if_ne (tgt := 44) S.1 S.2.1 dX1_partners_30 (by decide) (fun h4 => ?_) (fun h4 => ?_)
          · refine lv_iload_n S.1 S.2.1 dX1_partners_44 rfl (lv_at hl 5 rfl) ?_
            refine lv_iconst (v := (nI 1)) S.1 S.2.1 dX1_partners_45 (by decide) ?_
            refine lv_icmp_ne (tgt := 64) S.1 S.2.1 dX1_partners_46 (by decide) (fun h6 => ?_) (fun h6 => ?_)
            · have h6 : ¬ p2 = 1 := h6
              refine lv_iconst (v := (bI false)) S.1 S.2.1 dX1_partners_64 (by decide) ?_
              refine lv_istore (lv' := [(6, .int (bI false)), (5, .int (nI y)), (4, .int (nI (pw (ptB on r x p2) y))), (0, .ref (b 0)), (1, .int (nI r)), (2, .int (nI x)), (3, .int p2)]) S.1 S.2.1 dX1_partners_65 hl (by decide) rfl (fun ls hl => ?_)
              refine lv_iload S.1 S.2.1 dX1_partners_67 (lv_at hl 0 rfl) ?_
              refine z_eq (tgt := 82) S dX1_partners_69 (by decide) (fun k9 => ?_) (fun k9 => ?_)
              · refine lv_iload S.1 S.2.1 dX1_partners_82 (lv_at hl 2 rfl) ?_
                refine lv_istore (lv' := [(4, .int (nI (pw (ptB on r x p2) y))), (6, .int (bI false)), (5, .int (nI y)), (0, .ref (b 0)), (1, .int (nI r)), (2, .int (nI x)), (3, .int p2)]) S.1 S.2.1 dX1_partners_84 hl (by decide) rfl (fun ls hl => ?_)
                refine n_iinc (x := y) (k := 2) (lv' := [(5, .int (nI (y + 1))), (4, .int (nI (pw (ptB on r x p2) y))), (6, .int (bI false)), (0, .ref (b 0)), (1, .int (nI r)), (2, .int (nI x)), (3, .int p2)]) S dX1_partners_86 hl rfl (by decide) rfl (fun ls hl => ?_)
                refine lv_goto (tgt := 6) S.1 S.2.1 dX1_partners_89 (by decide) ?_
                exact ih (y + 1) ls ⟨by rw [pw_f (f := ptB on r x p2) (by simp [ptB, h4, h6])]; exact lv_sub hl [0, 1, 3, 4, 5, 6] rfl, by omega⟩ (by omega)
              · cases k9
            · have h6 : p2 = 1 := h6
              refine lv_aload_n S.1 S.2.1 dX1_partners_49 rfl (lv_at hl 2 rfl) ?_
              refine lv_iload_n S.1 S.2.1 dX1_partners_50 rfl (lv_at hl 3 rfl) ?_
              refine lv_iload S.1 S.2.1 dX1_partners_51 (lv_at hl 0 rfl) ?_
              refine lv_iload_n S.1 S.2.1 dX1_partners_53 rfl (lv_at hl 4 rfl) ?_
              refine kM_in S hK hP (r := r) (x := y) (y := x) hI0 e1 h1 e2 hl.1 dX1_partners_54 ?_
              refine z_eq (tgt := 64) S dX1_partners_57 (by decide) (fun h7 => ?_) (fun h7 => ?_)
              · refine lv_iconst (v := (bI false)) S.1 S.2.1 dX1_partners_64 (by decide) ?_
                refine lv_istore (lv' := [(6, .int (bI false)), (5, .int (nI y)), (4, .int (nI (pw (ptB on r x p2) y))), (0, .ref (b 0)), (1, .int (nI r)), (2, .int (nI x)), (3, .int p2)]) S.1 S.2.1 dX1_partners_65 hl (by decide) rfl (fun ls hl => ?_)
                refine lv_iload S.1 S.2.1 dX1_partners_67 (lv_at hl 0 rfl) ?_
                refine z_eq (tgt := 82) S dX1_partners_69 (by decide) (fun k9 => ?_) (fun k9 => ?_)
                · refine lv_iload S.1 S.2.1 dX1_partners_82 (lv_at hl 2 rfl) ?_
                  refine lv_istore (lv' := [(4, .int (nI (pw (ptB on r x p2) y))), (6, .int (bI false)), (5, .int (nI y)), (0, .ref (b 0)), (1, .int (nI r)), (2, .int (nI x)), (3, .int p2)]) S.1 S.2.1 dX1_partners_84 hl (by decide) rfl (fun ls hl => ?_)
                  refine n_iinc (x := y) (k := 2) (lv' := [(5, .int (nI (y + 1))), (4, .int (nI (pw (ptB on r x p2) y))), (6, .int (bI false)), (0, .ref (b 0)), (1, .int (nI r)), (2, .int (nI x)), (3, .int p2)]) S dX1_partners_86 hl rfl (by decide) rfl (fun ls hl => ?_)
                  refine lv_goto (tgt := 6) S.1 S.2.1 dX1_partners_89 (by decide) ?_
                  exact ih (y + 1) ls ⟨by rw [pw_f (f := ptB on r x p2) (by simp [ptB, h4, h6, h7])]; exact lv_sub hl [0, 1, 3, 4, 5, 6] rfl, by omega⟩ (by omega)
                · cases k9
              · refine lv_iconst (v := (bI true)) S.1 S.2.1 dX1_partners_60 (by decide) ?_
                refine lv_goto (tgt := 65) S.1 S.2.1 dX1_partners_61 (by decide) ?_
                refine lv_istore (lv' := [(6, .int (bI true)), (5, .int (nI y)), (4, .int (nI (pw (ptB on r x p2) y))), (0, .ref (b 0)), (1, .int (nI r)), (2, .int (nI x)), (3, .int p2)]) S.1 S.2.1 dX1_partners_65 hl (by decide) rfl (fun ls hl => ?_)
                refine lv_iload S.1 S.2.1 dX1_partners_67 (lv_at hl 0 rfl) ?_
                refine z_eq (tgt := 82) S dX1_partners_69 (by decide) (fun k9 => ?_) (fun k9 => ?_)
                · cases k9
                · refine lv_iload S.1 S.2.1 dX1_partners_72 (lv_at hl 2 rfl) ?_
                  refine lv_iconst (v := (nI 1)) S.1 S.2.1 dX1_partners_74 (by decide) ?_
                  refine lv_iload S.1 S.2.1 dX1_partners_75 (lv_at hl 1 rfl) ?_
                  refine n_ishl1 S (by omega) dX1_partners_77 ?_
                  refine n_ior S dX1_partners_78 ?_
                  refine lv_goto (tgt := 84) S.1 S.2.1 dX1_partners_79 (by decide) ?_
                  refine lv_istore (lv' := [(4, .int (nI ((pw (ptB on r x p2) y) ||| (2 ^ y)))), (6, .int (bI true)), (5, .int (nI y)), (0, .ref (b 0)), (1, .int (nI r)), (2, .int (nI x)), (3, .int p2)]) S.1 S.2.1 dX1_partners_84 hl (by decide) rfl (fun ls hl => ?_)
                  refine n_iinc (x := y) (k := 2) (lv' := [(5, .int (nI (y + 1))), (4, .int (nI ((pw (ptB on r x p2) y) ||| (2 ^ y)))), (6, .int (bI true)), (0, .ref (b 0)), (1, .int (nI r)), (2, .int (nI x)), (3, .int p2)]) S dX1_partners_86 hl rfl (by decide) rfl (fun ls hl => ?_)
                  refine lv_goto (tgt := 6) S.1 S.2.1 dX1_partners_89 (by decide) ?_
                  exact ih (y + 1) ls ⟨by rw [pw_t (f := ptB on r x p2) (by simp [ptB, h4, h6, h7])]; exact lv_sub hl [0, 1, 3, 4, 5, 6] rfl, by omega⟩ (by omega)
          · refine lv_aload_n S.1 S.2.1 dX1_partners_33 rfl (lv_at hl 2 rfl) ?_
            refine lv_iload_n S.1 S.2.1 dX1_partners_34 rfl (lv_at hl 3 rfl) ?_
            refine lv_iload_n S.1 S.2.1 dX1_partners_35 rfl (lv_at hl 4 rfl) ?_
            refine lv_iload S.1 S.2.1 dX1_partners_36 (lv_at hl 0 rfl) ?_
            refine kM_in S hK hP (r := r) (x := x) (y := y) hI0 e1 e2 h1 hl.1 dX1_partners_38 ?_
            refine z_ne (tgt := 60) S dX1_partners_41 (by decide) (fun h5 => ?_) (fun h5 => ?_)
            · refine lv_iconst (v := (bI true)) S.1 S.2.1 dX1_partners_60 (by decide) ?_
              refine lv_goto (tgt := 65) S.1 S.2.1 dX1_partners_61 (by decide) ?_
              refine lv_istore (lv' := [(6, .int (bI true)), (5, .int (nI y)), (4, .int (nI (pw (ptB on r x p2) y))), (0, .ref (b 0)), (1, .int (nI r)), (2, .int (nI x)), (3, .int p2)]) S.1 S.2.1 dX1_partners_65 hl (by decide) rfl (fun ls hl => ?_)
              refine lv_iload S.1 S.2.1 dX1_partners_67 (lv_at hl 0 rfl) ?_
              refine z_eq (tgt := 82) S dX1_partners_69 (by decide) (fun k9 => ?_) (fun k9 => ?_)
              · cases k9
              · refine lv_iload S.1 S.2.1 dX1_partners_72 (lv_at hl 2 rfl) ?_
                refine lv_iconst (v := (nI 1)) S.1 S.2.1 dX1_partners_74 (by decide) ?_
                refine lv_iload S.1 S.2.1 dX1_partners_75 (lv_at hl 1 rfl) ?_
                refine n_ishl1 S (by omega) dX1_partners_77 ?_
                refine n_ior S dX1_partners_78 ?_
                refine lv_goto (tgt := 84) S.1 S.2.1 dX1_partners_79 (by decide) ?_
                refine lv_istore (lv' := [(4, .int (nI ((pw (ptB on r x p2) y) ||| (2 ^ y)))), (6, .int (bI true)), (5, .int (nI y)), (0, .ref (b 0)), (1, .int (nI r)), (2, .int (nI x)), (3, .int p2)]) S.1 S.2.1 dX1_partners_84 hl (by decide) rfl (fun ls hl => ?_)
                refine n_iinc (x := y) (k := 2) (lv' := [(5, .int (nI (y + 1))), (4, .int (nI ((pw (ptB on r x p2) y) ||| (2 ^ y)))), (6, .int (bI true)), (0, .ref (b 0)), (1, .int (nI r)), (2, .int (nI x)), (3, .int p2)]) S dX1_partners_86 hl rfl (by decide) rfl (fun ls hl => ?_)
                refine lv_goto (tgt := 6) S.1 S.2.1 dX1_partners_89 (by decide) ?_
                exact ih (y + 1) ls ⟨by rw [pw_t (f := ptB on r x p2) (by simp [ptB, h4, h5])]; exact lv_sub hl [0, 1, 3, 4, 5, 6] rfl, by omega⟩ (by omega)
            · refine lv_iload_n S.1 S.2.1 dX1_partners_44 rfl (lv_at hl 5 rfl) ?_
              refine lv_iconst (v := (nI 1)) S.1 S.2.1 dX1_partners_45 (by decide) ?_
              refine lv_icmp_ne (tgt := 64) S.1 S.2.1 dX1_partners_46 (by decide) (fun h6 => ?_) (fun h6 => ?_)
              · have h6 : ¬ p2 = 1 := h6
                refine lv_iconst (v := (bI false)) S.1 S.2.1 dX1_partners_64 (by decide) ?_
                refine lv_istore (lv' := [(6, .int (bI false)), (5, .int (nI y)), (4, .int (nI (pw (ptB on r x p2) y))), (0, .ref (b 0)), (1, .int (nI r)), (2, .int (nI x)), (3, .int p2)]) S.1 S.2.1 dX1_partners_65 hl (by decide) rfl (fun ls hl => ?_)
                refine lv_iload S.1 S.2.1 dX1_partners_67 (lv_at hl 0 rfl) ?_
                refine z_eq (tgt := 82) S dX1_partners_69 (by decide) (fun k9 => ?_) (fun k9 => ?_)
                · refine lv_iload S.1 S.2.1 dX1_partners_82 (lv_at hl 2 rfl) ?_
                  refine lv_istore (lv' := [(4, .int (nI (pw (ptB on r x p2) y))), (6, .int (bI false)), (5, .int (nI y)), (0, .ref (b 0)), (1, .int (nI r)), (2, .int (nI x)), (3, .int p2)]) S.1 S.2.1 dX1_partners_84 hl (by decide) rfl (fun ls hl => ?_)
                  refine n_iinc (x := y) (k := 2) (lv' := [(5, .int (nI (y + 1))), (4, .int (nI (pw (ptB on r x p2) y))), (6, .int (bI false)), (0, .ref (b 0)), (1, .int (nI r)), (2, .int (nI x)), (3, .int p2)]) S dX1_partners_86 hl rfl (by decide) rfl (fun ls hl => ?_)
                  refine lv_goto (tgt := 6) S.1 S.2.1 dX1_partners_89 (by decide) ?_
                  exact ih (y + 1) ls ⟨by rw [pw_f (f := ptB on r x p2) (by simp [ptB, h4, h5, h6])]; exact lv_sub hl [0, 1, 3, 4, 5, 6] rfl, by omega⟩ (by omega)
                · cases k9
              · have h6 : p2 = 1 := h6
                exact absurd (h4.symm.trans h6) (by decide)
end Methods
end
section
set_option maxRecDepth 100000
/-! the two constructors -/
def zf : Nat → Nat := fun _ => 0
def zb : Nat → Bool := fun _ => false
def iA (h sz : Nat) : Nat → Prop := fun q => q = h ∨ sz ≤ q
theorem one_D {A : Nat → Prop} {h : Nat} {e : va_E} (ha : A h) : va_D A [(h, e)] := by
  refine ⟨fun i j p q hi hj _ => ?_, fun k q hk => ?_⟩
  · have h1 := (List.getElem?_eq_some_iff.mp hi).1
    have h2 := (List.getElem?_eq_some_iff.mp hj).1
    simp at h1 h2
    omega
  · match k, hk with
    | 0, hk => cases hk; exact ha
    | k + 1, hk => simp at hk
set_option maxHeartbeats 2000000 in
theorem mX_init (l : Launch) {D : va_G} (h sz : Nat) : Met l yX0_init (ws_ yX0_init cX0_init 1 none) ({ frames := 1, cells := 7, slots := 71, locals := 12 }) (va_Pc [.ref h] (fun U => U.heap.size = sz ∧ va_P D vwCl [(h, .inr (0, [.null, .null, .null, .null, .null, .int (nI 0), .null, .null]))] U.heap ∧ va_K D vwCl [] U)) (va_Qv (fun u : (Nat → Nat) × ClassId × ClassId => u.1 0 = h ∧ xAp u.1 8 ∧ ∀ i, 0 < i → i < 8 → sz ≤ u.1 i) (fun u t => va_P D vwCl (xw u.1 u.2.1 u.2.2 zf zf zf zf zf 0 zf zf) t.heap ∧ va_K D vwCl (tX u.2.1 u.2.2) t) (iA h sz)) 7 71 (iA h sz) := by
  refine Met.ofW (cc := cX0_init) (maxL := 1) (ret := none) (by decide) rfl ?_
  intro p e s m args below meth c s₁ B hml hv
  obtain ⟨rfl, hsz, hP, hK⟩ := hv
  have hx := B.exec
  have hb := B.bytes
  have hr := B.returns
  have hts := atoms_spec (ws := ws_ yX0_init cX0_init 1 none) B.pre
  have hts : ∀ w ∈ lw_all, w.before _ s = true := fun w h => hts w (List.mem_cons_of_mem _ h)
  have hown : s.vm.findClass RX0 = some m.cls := findClass_of_methodNamed B.named
  have hlocks := B.notSynchronized
  have hin : meth.name = "<init>" := (name_of_methodNamed B.named B.method).1
  subst hsz
  have hA : ∀ q : Nat, s.heap.size ≤ q → iA h s.heap.size q := fun q h => Or.inr h
  have hS : va_S (iA h s.heap.size) s.heap s.heap [] := va_S.rf
  have hD : va_D (iA h s.heap.size) [(h, .inr (0, [.null, .null, .null, .null, .null, .int (nI 0), .null, .null]))] := one_D (Or.inl rfl)
  have hl := lv_entry ([.ref h]) (n := 1) (Nat.le_of_ble_eq_true rfl)
  rw [lg_entry_eq]
  generalize (lg_sl ([.ref h]) ++ List.replicate (1 - (lg_sl ([.ref h])).length) Slot.unset).toArray = ls at hl ⊢
  have hl : lv_has ls 1 [(0, .ref h)] := hl
  refine lv_aload_n hx hb dX0_init_0 rfl (lv_at hl 0 rfl) ?_
  refine W.objInit hx hb hown (hts _ q23) (hts _ q24) (hts _ q25) rfl (by rw [hml]; exact hl.1) rfl dX0_init_1 (Nat.le_of_ble_eq_true rfl) (Nat.le_of_ble_eq_true rfl) ?_
  refine W.eq (g2 := F0 m 4 ls []) rfl ?_
  refine lv_aload_n hx hb dX0_init_4 rfl (lv_at hl 0 rfl) ?_
  refine lv_bipush (v := nI 24) hx hb dX0_init_5 (by decide) ?_
  refine va_newa (atype := .short) (a0 := (24, .inl (fun k => nI (zf k)))) (ty := .short) hx hb (hts _ q51) rfl hK hP hD hS hA (fun cA => rfl) (nI_pos (by decide)) (nI_clamp (by decide)) (by decide) (Nat.le_of_ble_eq_true rfl) (Nat.le_of_ble_eq_true rfl) dX0_init_7 (fun q1_ cA H hK hP hD hS => ?_)
  obtain ⟨cS, rfl⟩ : ∃ z, z = cA := ⟨_, rfl⟩
  have hK : va_K D vwCl [(cS, .short)] s := hK
  have hP : va_P D vwCl [(h, .inr (0, [.null, .null, .null, .null, .null, .int (nI 0), .null, .null])), (q1_, .inl (cS, 24, .inl (fun k => nI (zf k))))] H := hP
  have hD : va_D (iA h s.heap.size) [(h, .inr (0, [.null, .null, .null, .null, .null, .int (nI 0), .null, .null])), (q1_, .inl (cS, 24, .inl (fun k => nI (zf k))))] := hD
  refine W.widen (k := 1) (n := 24) (by omega) (by omega) ?_
  refine va_putF (D := D) (ci := 0) (v := .ref q1_) (ty := .array .short) (C := RX0) (T := TX0) (N := 8) hx hb hts in_X0 tyX0 tyX0_ok nmX0 hown hK hP hD hS 0 rfl rfl 0 (by decide) (hts _ q26) (fun _ h9 => h9) rfl hin rfl (by decide +kernel) rfl rfl (Nat.le_of_ble_eq_true rfl) dX0_init_9 (fun H locs hP hD hS => ?_)
  have hP : va_P D vwCl [(h, .inr (0, [.ref q1_, .null, .null, .null, .null, .int (nI 0), .null, .null])), (q1_, .inl (cS, 24, .inl (fun k => nI (zf k))))] H := hP
  have hD : va_D (iA h s.heap.size) [(h, .inr (0, [.ref q1_, .null, .null, .null, .null, .int (nI 0), .null, .null])), (q1_, .inl (cS, 24, .inl (fun k => nI (zf k))))] := hD
  refine lv_aload_n hx hb dX0_init_12 rfl (lv_at hl 0 rfl) ?_
  refine lv_bipush (v := nI 24) hx hb dX0_init_13 (by decide) ?_
  refine va_newa (atype := .short) (a0 := (24, .inl (fun k => nI (zf k)))) (ty := .short) hx hb (hts _ q51) rfl hK hP hD hS hA (fun cA => rfl) (nI_pos (by decide)) (nI_clamp (by decide)) (by decide) (Nat.le_of_ble_eq_true rfl) (Nat.le_of_ble_eq_true rfl) dX0_init_15 (fun q2_ cA H hK hP hD hS => ?_)
  have eA : cA = cS := by
    have e1 : s.vm.findClass ("[" ++ FieldType.short.toString) = some cA := (hK.2 1 (cA, .short) rfl).2
    have e2 : s.vm.findClass ("[" ++ FieldType.short.toString) = some cS := (hK.2 0 (cS, .short) rfl).2
    exact Option.some.inj (e1.symm.trans e2)
  subst cA
  have hK := hK.sub (tys' := [(cS, .short)]) [0] rfl
  have hP : va_P D vwCl [(h, .inr (0, [.ref q1_, .null, .null, .null, .null, .int (nI 0), .null, .null])), (q1_, .inl (cS, 24, .inl (fun k => nI (zf k)))), (q2_, .inl (cS, 24, .inl (fun k => nI (zf k))))] H := hP
  have hD : va_D (iA h s.heap.size) [(h, .inr (0, [.ref q1_, .null, .null, .null, .null, .int (nI 0), .null, .null])), (q1_, .inl (cS, 24, .inl (fun k => nI (zf k)))), (q2_, .inl (cS, 24, .inl (fun k => nI (zf k))))] := hD
  refine W.widen (k := 2) (n := 48) (by omega) (by omega) ?_
  refine va_putF (D := D) (ci := 0) (v := .ref q2_) (ty := .array .short) (C := RX0) (T := TX0) (N := 8) hx hb hts in_X0 tyX0 tyX0_ok nmX0 hown hK hP hD hS 0 rfl rfl 1 (by decide) (hts _ q27) (fun _ h9 => h9) rfl hin rfl (by decide +kernel) rfl rfl (Nat.le_of_ble_eq_true rfl) dX0_init_17 (fun H locs hP hD hS => ?_)
  have hP : va_P D vwCl [(h, .inr (0, [.ref q1_, .ref q2_, .null, .null, .null, .int (nI 0), .null, .null])), (q1_, .inl (cS, 24, .inl (fun k => nI (zf k)))), (q2_, .inl (cS, 24, .inl (fun k => nI (zf k))))] H := hP
  have hD : va_D (iA h s.heap.size) [(h, .inr (0, [.ref q1_, .ref q2_, .null, .null, .null, .int (nI 0), .null, .null])), (q1_, .inl (cS, 24, .inl (fun k => nI (zf k)))), (q2_, .inl (cS, 24, .inl (fun k => nI (zf k))))] := hD
  refine lv_aload_n hx hb dX0_init_20 rfl (lv_at hl 0 rfl) ?_
  refine lv_iconst (v := nI 5) hx hb dX0_init_21 (by decide) ?_
  refine va_newa (atype := .byte) (a0 := (5, .inl (fun k => nI (zf k)))) (ty := .byte) hx hb (hts _ q52) rfl hK hP hD hS hA (fun cA => rfl) (nI_pos (by decide)) (nI_clamp (by decide)) (by decide) (Nat.le_of_ble_eq_true rfl) (Nat.le_of_ble_eq_true rfl) dX0_init_22 (fun q3_ cA H hK hP hD hS => ?_)
  obtain ⟨cB, rfl⟩ : ∃ z, z = cA := ⟨_, rfl⟩
  have hK : va_K D vwCl [(cS, .short), (cB, .byte)] s := hK
  have hP : va_P D vwCl [(h, .inr (0, [.ref q1_, .ref q2_, .null, .null, .null, .int (nI 0), .null, .null])), (q1_, .inl (cS, 24, .inl (fun k => nI (zf k)))), (q2_, .inl (cS, 24, .inl (fun k => nI (zf k)))), (q3_, .inl (cB, 5, .inl (fun k => nI (zf k))))] H := hP
  have hD : va_D (iA h s.heap.size) [(h, .inr (0, [.ref q1_, .ref q2_, .null, .null, .null, .int (nI 0), .null, .null])), (q1_, .inl (cS, 24, .inl (fun k => nI (zf k)))), (q2_, .inl (cS, 24, .inl (fun k => nI (zf k)))), (q3_, .inl (cB, 5, .inl (fun k => nI (zf k))))] := hD
  refine W.widen (k := 3) (n := 53) (by omega) (by omega) ?_
  refine va_putF (D := D) (ci := 0) (v := .ref q3_) (ty := .array .byte) (C := RX0) (T := TX0) (N := 8) hx hb hts in_X0 tyX0 tyX0_ok nmX0 hown hK hP hD hS 0 rfl rfl 2 (by decide) (hts _ q28) (fun _ h9 => h9) rfl hin rfl (by decide +kernel) rfl rfl (Nat.le_of_ble_eq_true rfl) dX0_init_24 (fun H locs hP hD hS => ?_)
  have hP : va_P D vwCl [(h, .inr (0, [.ref q1_, .ref q2_, .ref q3_, .null, .null, .int (nI 0), .null, .null])), (q1_, .inl (cS, 24, .inl (fun k => nI (zf k)))), (q2_, .inl (cS, 24, .inl (fun k => nI (zf k)))), (q3_, .inl (cB, 5, .inl (fun k => nI (zf k))))] H := hP
  have hD : va_D (iA h s.heap.size) [(h, .inr (0, [.ref q1_, .ref q2_, .ref q3_, .null, .null, .int (nI 0), .null, .null])), (q1_, .inl (cS, 24, .inl (fun k => nI (zf k)))), (q2_, .inl (cS, 24, .inl (fun k => nI (zf k)))), (q3_, .inl (cB, 5, .inl (fun k => nI (zf k))))] := hD
  refine lv_aload_n hx hb dX0_init_27 rfl (lv_at hl 0 rfl) ?_
  refine lv_iconst (v := nI 5) hx hb dX0_init_28 (by decide) ?_
  refine va_newa (atype := .byte) (a0 := (5, .inl (fun k => nI (zf k)))) (ty := .byte) hx hb (hts _ q52) rfl hK hP hD hS hA (fun cA => rfl) (nI_pos (by decide)) (nI_clamp (by decide)) (by decide) (Nat.le_of_ble_eq_true rfl) (Nat.le_of_ble_eq_true rfl) dX0_init_29 (fun q4_ cA H hK hP hD hS => ?_)
  have eA : cA = cB := by
    have e1 : s.vm.findClass ("[" ++ FieldType.byte.toString) = some cA := (hK.2 2 (cA, .byte) rfl).2
    have e2 : s.vm.findClass ("[" ++ FieldType.byte.toString) = some cB := (hK.2 1 (cB, .byte) rfl).2
    exact Option.some.inj (e1.symm.trans e2)
  subst cA
  have hK := hK.sub (tys' := [(cS, .short), (cB, .byte)]) [0, 1] rfl
  have hP : va_P D vwCl [(h, .inr (0, [.ref q1_, .ref q2_, .ref q3_, .null, .null, .int (nI 0), .null, .null])), (q1_, .inl (cS, 24, .inl (fun k => nI (zf k)))), (q2_, .inl (cS, 24, .inl (fun k => nI (zf k)))), (q3_, .inl (cB, 5, .inl (fun k => nI (zf k)))), (q4_, .inl (cB, 5, .inl (fun k => nI (zf k))))] H := hP
  have hD : va_D (iA h s.heap.size) [(h, .inr (0, [.ref q1_, .ref q2_, .ref q3_, .null, .null, .int (nI 0), .null, .null])), (q1_, .inl (cS, 24, .inl (fun k => nI (zf k)))), (q2_, .inl (cS, 24, .inl (fun k => nI (zf k)))), (q3_, .inl (cB, 5, .inl (fun k => nI (zf k)))), (q4_, .inl (cB, 5, .inl (fun k => nI (zf k))))] := hD
  refine W.widen (k := 4) (n := 58) (by omega) (by omega) ?_
  refine va_putF (D := D) (ci := 0) (v := .ref q4_) (ty := .array .byte) (C := RX0) (T := TX0) (N := 8) hx hb hts in_X0 tyX0 tyX0_ok nmX0 hown hK hP hD hS 0 rfl rfl 3 (by decide) (hts _ q29) (fun _ h9 => h9) rfl hin rfl (by decide +kernel) rfl rfl (Nat.le_of_ble_eq_true rfl) dX0_init_31 (fun H locs hP hD hS => ?_)
  have hP : va_P D vwCl [(h, .inr (0, [.ref q1_, .ref q2_, .ref q3_, .ref q4_, .null, .int (nI 0), .null, .null])), (q1_, .inl (cS, 24, .inl (fun k => nI (zf k)))), (q2_, .inl (cS, 24, .inl (fun k => nI (zf k)))), (q3_, .inl (cB, 5, .inl (fun k => nI (zf k)))), (q4_, .inl (cB, 5, .inl (fun k => nI (zf k))))] H := hP
  have hD : va_D (iA h s.heap.size) [(h, .inr (0, [.ref q1_, .ref q2_, .ref q3_, .ref q4_, .null, .int (nI 0), .null, .null])), (q1_, .inl (cS, 24, .inl (fun k => nI (zf k)))), (q2_, .inl (cS, 24, .inl (fun k => nI (zf k)))), (q3_, .inl (cB, 5, .inl (fun k => nI (zf k)))), (q4_, .inl (cB, 5, .inl (fun k => nI (zf k))))] := hD
  refine lv_aload_n hx hb dX0_init_34 rfl (lv_at hl 0 rfl) ?_
  refine lv_iconst (v := nI 5) hx hb dX0_init_35 (by decide) ?_
  refine va_newa (atype := .byte) (a0 := (5, .inl (fun k => nI (zf k)))) (ty := .byte) hx hb (hts _ q52) rfl hK hP hD hS hA (fun cA => rfl) (nI_pos (by decide)) (nI_clamp (by decide)) (by decide) (Nat.le_of_ble_eq_true rfl) (Nat.le_of_ble_eq_true rfl) dX0_init_36 (fun q5_ cA H hK hP hD hS => ?_)
  have eA : cA = cB := by
    have e1 : s.vm.findClass ("[" ++ FieldType.byte.toString) = some cA := (hK.2 2 (cA, .byte) rfl).2
    have e2 : s.vm.findClass ("[" ++ FieldType.byte.toString) = some cB := (hK.2 1 (cB, .byte) rfl).2
    exact Option.some.inj (e1.symm.trans e2)
  subst cA
  have hK := hK.sub (tys' := [(cS, .short), (cB, .byte)]) [0, 1] rfl
  have hP : va_P D vwCl [(h, .inr (0, [.ref q1_, .ref q2_, .ref q3_, .ref q4_, .null, .int (nI 0), .null, .null])), (q1_, .inl (cS, 24, .inl (fun k => nI (zf k)))), (q2_, .inl (cS, 24, .inl (fun k => nI (zf k)))), (q3_, .inl (cB, 5, .inl (fun k => nI (zf k)))), (q4_, .inl (cB, 5, .inl (fun k => nI (zf k)))), (q5_, .inl (cB, 5, .inl (fun k => nI (zf k))))] H := hP
  have hD : va_D (iA h s.heap.size) [(h, .inr (0, [.ref q1_, .ref q2_, .ref q3_, .ref q4_, .null, .int (nI 0), .null, .null])), (q1_, .inl (cS, 24, .inl (fun k => nI (zf k)))), (q2_, .inl (cS, 24, .inl (fun k => nI (zf k)))), (q3_, .inl (cB, 5, .inl (fun k => nI (zf k)))), (q4_, .inl (cB, 5, .inl (fun k => nI (zf k)))), (q5_, .inl (cB, 5, .inl (fun k => nI (zf k))))] := hD
  refine W.widen (k := 5) (n := 63) (by omega) (by omega) ?_
  refine va_putF (D := D) (ci := 0) (v := .ref q5_) (ty := .array .byte) (C := RX0) (T := TX0) (N := 8) hx hb hts in_X0 tyX0 tyX0_ok nmX0 hown hK hP hD hS 0 rfl rfl 4 (by decide) (hts _ q30) (fun _ h9 => h9) rfl hin rfl (by decide +kernel) rfl rfl (Nat.le_of_ble_eq_true rfl) dX0_init_38 (fun H locs hP hD hS => ?_)
  have hP : va_P D vwCl [(h, .inr (0, [.ref q1_, .ref q2_, .ref q3_, .ref q4_, .ref q5_, .int (nI 0), .null, .null])), (q1_, .inl (cS, 24, .inl (fun k => nI (zf k)))), (q2_, .inl (cS, 24, .inl (fun k => nI (zf k)))), (q3_, .inl (cB, 5, .inl (fun k => nI (zf k)))), (q4_, .inl (cB, 5, .inl (fun k => nI (zf k)))), (q5_, .inl (cB, 5, .inl (fun k => nI (zf k))))] H := hP
  have hD : va_D (iA h s.heap.size) [(h, .inr (0, [.ref q1_, .ref q2_, .ref q3_, .ref q4_, .ref q5_, .int (nI 0), .null, .null])), (q1_, .inl (cS, 24, .inl (fun k => nI (zf k)))), (q2_, .inl (cS, 24, .inl (fun k => nI (zf k)))), (q3_, .inl (cB, 5, .inl (fun k => nI (zf k)))), (q4_, .inl (cB, 5, .inl (fun k => nI (zf k)))), (q5_, .inl (cB, 5, .inl (fun k => nI (zf k))))] := hD
  refine lv_aload_n hx hb dX0_init_41 rfl (lv_at hl 0 rfl) ?_
  refine lv_iconst (v := nI 4) hx hb dX0_init_42 (by decide) ?_
  refine va_newa (atype := .byte) (a0 := (4, .inl (fun k => nI (zf k)))) (ty := .byte) hx hb (hts _ q52) rfl hK hP hD hS hA (fun cA => rfl) (nI_pos (by decide)) (nI_clamp (by decide)) (by decide) (Nat.le_of_ble_eq_true rfl) (Nat.le_of_ble_eq_true rfl) dX0_init_43 (fun q6_ cA H hK hP hD hS => ?_)
  have eA : cA = cB := by
    have e1 : s.vm.findClass ("[" ++ FieldType.byte.toString) = some cA := (hK.2 2 (cA, .byte) rfl).2
    have e2 : s.vm.findClass ("[" ++ FieldType.byte.toString) = some cB := (hK.2 1 (cB, .byte) rfl).2
    exact Option.some.inj (e1.symm.trans e2)
  subst cA
  have hK := hK.sub (tys' := [(cS, .short), (cB, .byte)]) [0, 1] rfl
  have hP : va_P D vwCl [(h, .inr (0, [.ref q1_, .ref q2_, .ref q3_, .ref q4_, .ref q5_, .int (nI 0), .null, .null])), (q1_, .inl (cS, 24, .inl (fun k => nI (zf k)))), (q2_, .inl (cS, 24, .inl (fun k => nI (zf k)))), (q3_, .inl (cB, 5, .inl (fun k => nI (zf k)))), (q4_, .inl (cB, 5, .inl (fun k => nI (zf k)))), (q5_, .inl (cB, 5, .inl (fun k => nI (zf k)))), (q6_, .inl (cB, 4, .inl (fun k => nI (zf k))))] H := hP
  have hD : va_D (iA h s.heap.size) [(h, .inr (0, [.ref q1_, .ref q2_, .ref q3_, .ref q4_, .ref q5_, .int (nI 0), .null, .null])), (q1_, .inl (cS, 24, .inl (fun k => nI (zf k)))), (q2_, .inl (cS, 24, .inl (fun k => nI (zf k)))), (q3_, .inl (cB, 5, .inl (fun k => nI (zf k)))), (q4_, .inl (cB, 5, .inl (fun k => nI (zf k)))), (q5_, .inl (cB, 5, .inl (fun k => nI (zf k)))), (q6_, .inl (cB, 4, .inl (fun k => nI (zf k))))] := hD
  refine W.widen (k := 6) (n := 67) (by omega) (by omega) ?_
  refine va_putF (D := D) (ci := 0) (v := .ref q6_) (ty := .array .byte) (C := RX0) (T := TX0) (N := 8) hx hb hts in_X0 tyX0 tyX0_ok nmX0 hown hK hP hD hS 0 rfl rfl 6 (by decide) (hts _ q32) (fun _ h9 => h9) rfl hin rfl (by decide +kernel) rfl rfl (Nat.le_of_ble_eq_true rfl) dX0_init_45 (fun H locs hP hD hS => ?_)
  have hP : va_P D vwCl [(h, .inr (0, [.ref q1_, .ref q2_, .ref q3_, .ref q4_, .ref q5_, .int (nI 0), .ref q6_, .null])), (q1_, .inl (cS, 24, .inl (fun k => nI (zf k)))), (q2_, .inl (cS, 24, .inl (fun k => nI (zf k)))), (q3_, .inl (cB, 5, .inl (fun k => nI (zf k)))), (q4_, .inl (cB, 5, .inl (fun k => nI (zf k)))), (q5_, .inl (cB, 5, .inl (fun k => nI (zf k)))), (q6_, .inl (cB, 4, .inl (fun k => nI (zf k))))] H := hP
  have hD : va_D (iA h s.heap.size) [(h, .inr (0, [.ref q1_, .ref q2_, .ref q3_, .ref q4_, .ref q5_, .int (nI 0), .ref q6_, .null])), (q1_, .inl (cS, 24, .inl (fun k => nI (zf k)))), (q2_, .inl (cS, 24, .inl (fun k => nI (zf k)))), (q3_, .inl (cB, 5, .inl (fun k => nI (zf k)))), (q4_, .inl (cB, 5, .inl (fun k => nI (zf k)))), (q5_, .inl (cB, 5, .inl (fun k => nI (zf k)))), (q6_, .inl (cB, 4, .inl (fun k => nI (zf k))))] := hD
  refine lv_aload_n hx hb dX0_init_48 rfl (lv_at hl 0 rfl) ?_
  refine lv_iconst (v := nI 4) hx hb dX0_init_49 (by decide) ?_
  refine va_newa (atype := .byte) (a0 := (4, .inl (fun k => nI (zf k)))) (ty := .byte) hx hb (hts _ q52) rfl hK hP hD hS hA (fun cA => rfl) (nI_pos (by decide)) (nI_clamp (by decide)) (by decide) (Nat.le_of_ble_eq_true rfl) (Nat.le_of_ble_eq_true rfl) dX0_init_50 (fun q7_ cA H hK hP hD hS => ?_)
  have eA : cA = cB := by
    have e1 : s.vm.findClass ("[" ++ FieldType.byte.toString) = some cA := (hK.2 2 (cA, .byte) rfl).2
    have e2 : s.vm.findClass ("[" ++ FieldType.byte.toString) = some cB := (hK.2 1 (cB, .byte) rfl).2
    exact Option.some.inj (e1.symm.trans e2)
  subst cA
  have hK := hK.sub (tys' := [(cS, .short), (cB, .byte)]) [0, 1] rfl
  have hP : va_P D vwCl [(h, .inr (0, [.ref q1_, .ref q2_, .ref q3_, .ref q4_, .ref q5_, .int (nI 0), .ref q6_, .null])), (q1_, .inl (cS, 24, .inl (fun k => nI (zf k)))), (q2_, .inl (cS, 24, .inl (fun k => nI (zf k)))), (q3_, .inl (cB, 5, .inl (fun k => nI (zf k)))), (q4_, .inl (cB, 5, .inl (fun k => nI (zf k)))), (q5_, .inl (cB, 5, .inl (fun k => nI (zf k)))), (q6_, .inl (cB, 4, .inl (fun k => nI (zf k)))), (q7_, .inl (cB, 4, .inl (fun k => nI (zf k))))] H := hP
  have hD : va_D (iA h s.heap.size) [(h, .inr (0, [.ref q1_, .ref q2_, .ref q3_, .ref q4_, .ref q5_, .int (nI 0), .ref q6_, .null])), (q1_, .inl (cS, 24, .inl (fun k => nI (zf k)))), (q2_, .inl (cS, 24, .inl (fun k => nI (zf k)))), (q3_, .inl (cB, 5, .inl (fun k => nI (zf k)))), (q4_, .inl (cB, 5, .inl (fun k => nI (zf k)))), (q5_, .inl (cB, 5, .inl (fun k => nI (zf k)))), (q6_, .inl (cB, 4, .inl (fun k => nI (zf k)))), (q7_, .inl (cB, 4, .inl (fun k => nI (zf k))))] := hD
  refine W.widen (k := 7) (n := 71) (by omega) (by omega) ?_
  refine va_putF (D := D) (ci := 0) (v := .ref q7_) (ty := .array .byte) (C := RX0) (T := TX0) (N := 8) hx hb hts in_X0 tyX0 tyX0_ok nmX0 hown hK hP hD hS 0 rfl rfl 7 (by decide) (hts _ q33) (fun _ h9 => h9) rfl hin rfl (by decide +kernel) rfl rfl (Nat.le_of_ble_eq_true rfl) dX0_init_52 (fun H locs hP hD hS => ?_)
  have hP : va_P D vwCl [(h, .inr (0, [.ref q1_, .ref q2_, .ref q3_, .ref q4_, .ref q5_, .int (nI 0), .ref q6_, .ref q7_])), (q1_, .inl (cS, 24, .inl (fun k => nI (zf k)))), (q2_, .inl (cS, 24, .inl (fun k => nI (zf k)))), (q3_, .inl (cB, 5, .inl (fun k => nI (zf k)))), (q4_, .inl (cB, 5, .inl (fun k => nI (zf k)))), (q5_, .inl (cB, 5, .inl (fun k => nI (zf k)))), (q6_, .inl (cB, 4, .inl (fun k => nI (zf k)))), (q7_, .inl (cB, 4, .inl (fun k => nI (zf k))))] H := hP
  have hD : va_D (iA h s.heap.size) [(h, .inr (0, [.ref q1_, .ref q2_, .ref q3_, .ref q4_, .ref q5_, .int (nI 0), .ref q6_, .ref q7_])), (q1_, .inl (cS, 24, .inl (fun k => nI (zf k)))), (q2_, .inl (cS, 24, .inl (fun k => nI (zf k)))), (q3_, .inl (cB, 5, .inl (fun k => nI (zf k)))), (q4_, .inl (cB, 5, .inl (fun k => nI (zf k)))), (q5_, .inl (cB, 5, .inl (fun k => nI (zf k)))), (q6_, .inl (cB, 4, .inl (fun k => nI (zf k)))), (q7_, .inl (cB, 4, .inl (fun k => nI (zf k))))] := hD
  obtain ⟨aa, haa⟩ : ∃ aa : Nat → Nat, aa = (fun i => match i with | 0 => h | 1 => q1_ | 2 => q2_ | 3 => q3_ | 4 => q4_ | 5 => q5_ | 6 => q6_ | _ => q7_) := ⟨_, rfl⟩
  have hat : ∀ i, i < 8 → ∃ e0, ([(h, .inr (0, [.ref q1_, .ref q2_, .ref q3_, .ref q4_, .ref q5_, .int (nI 0), .ref q6_, .ref q7_])), (q1_, .inl (cS, 24, .inl (fun k => nI (zf k)))), (q2_, .inl (cS, 24, .inl (fun k => nI (zf k)))), (q3_, .inl (cB, 5, .inl (fun k => nI (zf k)))), (q4_, .inl (cB, 5, .inl (fun k => nI (zf k)))), (q5_, .inl (cB, 5, .inl (fun k => nI (zf k)))), (q6_, .inl (cB, 4, .inl (fun k => nI (zf k)))), (q7_, .inl (cB, 4, .inl (fun k => nI (zf k))))] : va_W)[i]? = some (aa i, e0) := by
    intro i hi
    subst haa
    match i, hi with
    | 0, _ => exact ⟨_, rfl⟩
    | 1, _ => exact ⟨_, rfl⟩
    | 2, _ => exact ⟨_, rfl⟩
    | 3, _ => exact ⟨_, rfl⟩
    | 4, _ => exact ⟨_, rfl⟩
    | 5, _ => exact ⟨_, rfl⟩
    | 6, _ => exact ⟨_, rfl⟩
    | 7, _ => exact ⟨_, rfl⟩
  have hap : xAp aa 8 := by
    intro i j hi hj hij
    obtain ⟨ei, h1⟩ := hat i hi
    obtain ⟨ej, h2⟩ := hat j hj
    exact hD.1 i j _ _ h1 h2 hij
  have h0 : aa 0 = h := by subst haa; rfl
  have hge : ∀ i, 0 < i → i < 8 → s.heap.size ≤ aa i := by
    intro i hi0 hi
    obtain ⟨ei, h1⟩ := hat i hi
    rcases hD.2 i _ h1 with q | q
    · have : i = 0 := hap i 0 hi (by decide) (by rw [h0]; exact q)
      omega
    · exact q
  have hP9 : va_P D vwCl (xw aa cS cB zf zf zf zf zf 0 zf zf) H := by rw [haa]; exact hP
  exact W.vret hx hb hr (fun t ht hW => ⟨⟨(aa, cS, cB), rfl, ⟨h0, hap, hge⟩, by rw [ht]; exact hP9, va_K.moved hW.alike hK⟩, hS.F ht⟩) hS.2.2 dX0_init_55
set_option maxHeartbeats 2000000 in
theorem mM_init (l : Launch) {D : va_G} (h sz : Nat) : Met l yX1_init (ws_ yX1_init cX1_init 1 none) ({ frames := 1, cells := 5, slots := 103, locals := 12 }) (va_Pc [.ref h] (fun U => U.heap.size = sz ∧ va_P D vwCl [(h, .inr (1, [.null, .int (nI 0), .null, .null, .null, .null]))] U.heap ∧ va_K D vwCl [] U)) (va_Qv (fun u : (Nat → Nat) × ClassId × ClassId => u.1 0 = h ∧ xAp u.1 6 ∧ ∀ i, 0 < i → i < 6 → sz ≤ u.1 i) (fun u t => va_P D vwCl (mw u.1 u.2.1 u.2.2 zf zf zf zf 0 zb) t.heap ∧ va_K D vwCl (tM u.2.1 u.2.2) t) (iA h sz)) 5 103 (iA h sz) := by
  refine Met.ofW (cc := cX1_init) (maxL := 1) (ret := none) (by decide) rfl ?_
  intro p e s m args below meth c s₁ B hml hv
  obtain ⟨rfl, hsz, hP, hK⟩ := hv
  have hx := B.exec
  have hb := B.bytes
  have hr := B.returns
  have hts := atoms_spec (ws := ws_ yX1_init cX1_init 1 none) B.pre
  have hts : ∀ w ∈ lw_all, w.before _ s = true := fun w h => hts w (List.mem_cons_of_mem _ h)
  have hown : s.vm.findClass RX1 = some m.cls := findClass_of_methodNamed B.named
  have hlocks := B.notSynchronized
  have hin : meth.name = "<init>" := (name_of_methodNamed B.named B.method).1
  subst hsz
  have hA : ∀ q : Nat, s.heap.size ≤ q → iA h s.heap.size q := fun q h => Or.inr h
  have hS : va_S (iA h s.heap.size) s.heap s.heap [] := va_S.rf
  have hD : va_D (iA h s.heap.size) [(h, .inr (1, [.null, .int (nI 0), .null, .null, .null, .null]))] := one_D (Or.inl rfl)
  have hl := lv_entry ([.ref h]) (n := 1) (Nat.le_of_ble_eq_true rfl)
  rw [lg_entry_eq]
  generalize (lg_sl ([.ref h]) ++ List.replicate (1 - (lg_sl ([.ref h])).length) Slot.unset).toArray = ls at hl ⊢
  have hl : lv_has ls 1 [(0, .ref h)] := hl
  refine lv_aload_n hx hb dX1_init_0 rfl (lv_at hl 0 rfl) ?_
  refine W.objInit hx hb hown (hts _ q168) (hts _ q24) (hts _ q25) rfl (by rw [hml]; exact hl.1) rfl dX1_init_1 (Nat.le_of_ble_eq_true rfl) (Nat.le_of_ble_eq_true rfl) ?_
  refine W.eq (g2 := F0 m 4 ls []) rfl ?_
  refine lv_aload_n hx hb dX1_init_4 rfl (lv_at hl 0 rfl) ?_
  refine lv_bipush (v := nI 24) hx hb dX1_init_5 (by decide) ?_
  refine va_newa (atype := .int) (a0 := (24, .inl (fun k => nI (zf k)))) (ty := .int) hx hb (hts _ q188) rfl hK hP hD hS hA (fun cA => rfl) (nI_pos (by decide)) (nI_clamp (by decide)) (by decide) (Nat.le_of_ble_eq_true rfl) (Nat.le_of_ble_eq_true rfl) dX1_init_7 (fun q1_ cA H hK hP hD hS => ?_)
  obtain ⟨cI, rfl⟩ : ∃ z, z = cA := ⟨_, rfl⟩
  have hK : va_K D vwCl [(cI, .int)] s := hK
  have hP : va_P D vwCl [(h, .inr (1, [.null, .int (nI 0), .null, .null, .null, .null])), (q1_, .inl (cI, 24, .inl (fun k => nI (zf k))))] H := hP
  have hD : va_D (iA h s.heap.size) [(h, .inr (1, [.null, .int (nI 0), .null, .null, .null, .null])), (q1_, .inl (cI, 24, .inl (fun k => nI (zf k))))] := hD
  refine W.widen (k := 1) (n := 24) (by omega) (by omega) ?_
  refine va_put (D := D) (ci := 1) (v := .ref q1_) (ty := .array .int) (C := RX1) (T := TX1) (N := 6) hx hb hts in_X1 tyX1 tyX1_ok nmX1 hown hK hP hD hS 0 rfl rfl 0 (by decide) (hts _ q169) (fun _ h9 => h9) rfl (by decide +kernel) rfl rfl (Nat.le_of_ble_eq_true rfl) dX1_init_9 (fun H locs hP hD hS => ?_)
  have hP : va_P D vwCl [(h, .inr (1, [.ref q1_, .int (nI 0), .null, .null, .null, .null])), (q1_, .inl (cI, 24, .inl (fun k => nI (zf k))))] H := hP
  have hD : va_D (iA h s.heap.size) [(h, .inr (1, [.ref q1_, .int (nI 0), .null, .null, .null, .null])), (q1_, .inl (cI, 24, .inl (fun k => nI (zf k))))] := hD
  refine lv_aload_n hx hb dX1_init_12 rfl (lv_at hl 0 rfl) ?_
  refine lv_iconst (v := nI 5) hx hb dX1_init_13 (by decide) ?_
  refine va_newa (atype := .int) (a0 := (5, .inl (fun k => nI (zf k)))) (ty := .int) hx hb (hts _ q188) rfl hK hP hD hS hA (fun cA => rfl) (nI_pos (by decide)) (nI_clamp (by decide)) (by decide) (Nat.le_of_ble_eq_true rfl) (Nat.le_of_ble_eq_true rfl) dX1_init_14 (fun q2_ cA H hK hP hD hS => ?_)
  have eA : cA = cI := by
    have e1 : s.vm.findClass ("[" ++ FieldType.int.toString) = some cA := (hK.2 1 (cA, .int) rfl).2
    have e2 : s.vm.findClass ("[" ++ FieldType.int.toString) = some cI := (hK.2 0 (cI, .int) rfl).2
    exact Option.some.inj (e1.symm.trans e2)
  subst cA
  have hK := hK.sub (tys' := [(cI, .int)]) [0] rfl
  have hP : va_P D vwCl [(h, .inr (1, [.ref q1_, .int (nI 0), .null, .null, .null, .null])), (q1_, .inl (cI, 24, .inl (fun k => nI (zf k)))), (q2_, .inl (cI, 5, .inl (fun k => nI (zf k))))] H := hP
  have hD : va_D (iA h s.heap.size) [(h, .inr (1, [.ref q1_, .int (nI 0), .null, .null, .null, .null])), (q1_, .inl (cI, 24, .inl (fun k => nI (zf k)))), (q2_, .inl (cI, 5, .inl (fun k => nI (zf k))))] := hD
  refine W.widen (k := 2) (n := 29) (by omega) (by omega) ?_
  refine va_put (D := D) (ci := 1) (v := .ref q2_) (ty := .array .int) (C := RX1) (T := TX1) (N := 6) hx hb hts in_X1 tyX1 tyX1_ok nmX1 hown hK hP hD hS 0 rfl rfl 2 (by decide) (hts _ q171) (fun _ h9 => h9) rfl (by decide +kernel) rfl rfl (Nat.le_of_ble_eq_true rfl) dX1_init_16 (fun H locs hP hD hS => ?_)
  have hP : va_P D vwCl [(h, .inr (1, [.ref q1_, .int (nI 0), .ref q2_, .null, .null, .null])), (q1_, .inl (cI, 24, .inl (fun k => nI (zf k)))), (q2_, .inl (cI, 5, .inl (fun k => nI (zf k))))] H := hP
  have hD : va_D (iA h s.heap.size) [(h, .inr (1, [.ref q1_, .int (nI 0), .ref q2_, .null, .null, .null])), (q1_, .inl (cI, 24, .inl (fun k => nI (zf k)))), (q2_, .inl (cI, 5, .inl (fun k => nI (zf k))))] := hD
  refine lv_aload_n hx hb dX1_init_19 rfl (lv_at hl 0 rfl) ?_
  refine lv_iconst (v := nI 5) hx hb dX1_init_20 (by decide) ?_
  refine va_newa (atype := .int) (a0 := (5, .inl (fun k => nI (zf k)))) (ty := .int) hx hb (hts _ q188) rfl hK hP hD hS hA (fun cA => rfl) (nI_pos (by decide)) (nI_clamp (by decide)) (by decide) (Nat.le_of_ble_eq_true rfl) (Nat.le_of_ble_eq_true rfl) dX1_init_21 (fun q3_ cA H hK hP hD hS => ?_)
  have eA : cA = cI := by
    have e1 : s.vm.findClass ("[" ++ FieldType.int.toString) = some cA := (hK.2 1 (cA, .int) rfl).2
    have e2 : s.vm.findClass ("[" ++ FieldType.int.toString) = some cI := (hK.2 0 (cI, .int) rfl).2
    exact Option.some.inj (e1.symm.trans e2)
  subst cA
  have hK := hK.sub (tys' := [(cI, .int)]) [0] rfl
  have hP : va_P D vwCl [(h, .inr (1, [.ref q1_, .int (nI 0), .ref q2_, .null, .null, .null])), (q1_, .inl (cI, 24, .inl (fun k => nI (zf k)))), (q2_, .inl (cI, 5, .inl (fun k => nI (zf k)))), (q3_, .inl (cI, 5, .inl (fun k => nI (zf k))))] H := hP
  have hD : va_D (iA h s.heap.size) [(h, .inr (1, [.ref q1_, .int (nI 0), .ref q2_, .null, .null, .null])), (q1_, .inl (cI, 24, .inl (fun k => nI (zf k)))), (q2_, .inl (cI, 5, .inl (fun k => nI (zf k)))), (q3_, .inl (cI, 5, .inl (fun k => nI (zf k))))] := hD
  refine W.widen (k := 3) (n := 34) (by omega) (by omega) ?_
  refine va_put (D := D) (ci := 1) (v := .ref q3_) (ty := .array .int) (C := RX1) (T := TX1) (N := 6) hx hb hts in_X1 tyX1 tyX1_ok nmX1 hown hK hP hD hS 0 rfl rfl 3 (by decide) (hts _ q172) (fun _ h9 => h9) rfl (by decide +kernel) rfl rfl (Nat.le_of_ble_eq_true rfl) dX1_init_23 (fun H locs hP hD hS => ?_)
  have hP : va_P D vwCl [(h, .inr (1, [.ref q1_, .int (nI 0), .ref q2_, .ref q3_, .null, .null])), (q1_, .inl (cI, 24, .inl (fun k => nI (zf k)))), (q2_, .inl (cI, 5, .inl (fun k => nI (zf k)))), (q3_, .inl (cI, 5, .inl (fun k => nI (zf k))))] H := hP
  have hD : va_D (iA h s.heap.size) [(h, .inr (1, [.ref q1_, .int (nI 0), .ref q2_, .ref q3_, .null, .null])), (q1_, .inl (cI, 24, .inl (fun k => nI (zf k)))), (q2_, .inl (cI, 5, .inl (fun k => nI (zf k)))), (q3_, .inl (cI, 5, .inl (fun k => nI (zf k))))] := hD
  refine lv_aload_n hx hb dX1_init_26 rfl (lv_at hl 0 rfl) ?_
  refine lv_iconst (v := nI 5) hx hb dX1_init_27 (by decide) ?_
  refine va_newa (atype := .int) (a0 := (5, .inl (fun k => nI (zf k)))) (ty := .int) hx hb (hts _ q188) rfl hK hP hD hS hA (fun cA => rfl) (nI_pos (by decide)) (nI_clamp (by decide)) (by decide) (Nat.le_of_ble_eq_true rfl) (Nat.le_of_ble_eq_true rfl) dX1_init_28 (fun q4_ cA H hK hP hD hS => ?_)
  have eA : cA = cI := by
    have e1 : s.vm.findClass ("[" ++ FieldType.int.toString) = some cA := (hK.2 1 (cA, .int) rfl).2
    have e2 : s.vm.findClass ("[" ++ FieldType.int.toString) = some cI := (hK.2 0 (cI, .int) rfl).2
    exact Option.some.inj (e1.symm.trans e2)
  subst cA
  have hK := hK.sub (tys' := [(cI, .int)]) [0] rfl
  have hP : va_P D vwCl [(h, .inr (1, [.ref q1_, .int (nI 0), .ref q2_, .ref q3_, .null, .null])), (q1_, .inl (cI, 24, .inl (fun k => nI (zf k)))), (q2_, .inl (cI, 5, .inl (fun k => nI (zf k)))), (q3_, .inl (cI, 5, .inl (fun k => nI (zf k)))), (q4_, .inl (cI, 5, .inl (fun k => nI (zf k))))] H := hP
  have hD : va_D (iA h s.heap.size) [(h, .inr (1, [.ref q1_, .int (nI 0), .ref q2_, .ref q3_, .null, .null])), (q1_, .inl (cI, 24, .inl (fun k => nI (zf k)))), (q2_, .inl (cI, 5, .inl (fun k => nI (zf k)))), (q3_, .inl (cI, 5, .inl (fun k => nI (zf k)))), (q4_, .inl (cI, 5, .inl (fun k => nI (zf k))))] := hD
  refine W.widen (k := 4) (n := 39) (by omega) (by omega) ?_
  refine va_put (D := D) (ci := 1) (v := .ref q4_) (ty := .array .int) (C := RX1) (T := TX1) (N := 6) hx hb hts in_X1 tyX1 tyX1_ok nmX1 hown hK hP hD hS 0 rfl rfl 4 (by decide) (hts _ q173) (fun _ h9 => h9) rfl (by decide +kernel) rfl rfl (Nat.le_of_ble_eq_true rfl) dX1_init_30 (fun H locs hP hD hS => ?_)
  have hP : va_P D vwCl [(h, .inr (1, [.ref q1_, .int (nI 0), .ref q2_, .ref q3_, .ref q4_, .null])), (q1_, .inl (cI, 24, .inl (fun k => nI (zf k)))), (q2_, .inl (cI, 5, .inl (fun k => nI (zf k)))), (q3_, .inl (cI, 5, .inl (fun k => nI (zf k)))), (q4_, .inl (cI, 5, .inl (fun k => nI (zf k))))] H := hP
  have hD : va_D (iA h s.heap.size) [(h, .inr (1, [.ref q1_, .int (nI 0), .ref q2_, .ref q3_, .ref q4_, .null])), (q1_, .inl (cI, 24, .inl (fun k => nI (zf k)))), (q2_, .inl (cI, 5, .inl (fun k => nI (zf k)))), (q3_, .inl (cI, 5, .inl (fun k => nI (zf k)))), (q4_, .inl (cI, 5, .inl (fun k => nI (zf k))))] := hD
  refine lv_aload_n hx hb dX1_init_33 rfl (lv_at hl 0 rfl) ?_
  refine lv_bipush (v := nI 64) hx hb dX1_init_34 (by decide) ?_
  refine va_newa (atype := .boolean) (a0 := (64, .inl (fun k => bI (zb k)))) (ty := .boolean) hx hb (hts _ q189) rfl hK hP hD hS hA (fun cA => rfl) (nI_pos (by decide)) (nI_clamp (by decide)) (by decide) (Nat.le_of_ble_eq_true rfl) (Nat.le_of_ble_eq_true rfl) dX1_init_36 (fun q5_ cA H hK hP hD hS => ?_)
  obtain ⟨cZ, rfl⟩ : ∃ z, z = cA := ⟨_, rfl⟩
  have hK : va_K D vwCl [(cI, .int), (cZ, .boolean)] s := hK
  have hP : va_P D vwCl [(h, .inr (1, [.ref q1_, .int (nI 0), .ref q2_, .ref q3_, .ref q4_, .null])), (q1_, .inl (cI, 24, .inl (fun k => nI (zf k)))), (q2_, .inl (cI, 5, .inl (fun k => nI (zf k)))), (q3_, .inl (cI, 5, .inl (fun k => nI (zf k)))), (q4_, .inl (cI, 5, .inl (fun k => nI (zf k)))), (q5_, .inl (cZ, 64, .inl (fun k => bI (zb k))))] H := hP
  have hD : va_D (iA h s.heap.size) [(h, .inr (1, [.ref q1_, .int (nI 0), .ref q2_, .ref q3_, .ref q4_, .null])), (q1_, .inl (cI, 24, .inl (fun k => nI (zf k)))), (q2_, .inl (cI, 5, .inl (fun k => nI (zf k)))), (q3_, .inl (cI, 5, .inl (fun k => nI (zf k)))), (q4_, .inl (cI, 5, .inl (fun k => nI (zf k)))), (q5_, .inl (cZ, 64, .inl (fun k => bI (zb k))))] := hD
  refine W.widen (k := 5) (n := 103) (by omega) (by omega) ?_
  refine va_put (D := D) (ci := 1) (v := .ref q5_) (ty := .array .boolean) (C := RX1) (T := TX1) (N := 6) hx hb hts in_X1 tyX1 tyX1_ok nmX1 hown hK hP hD hS 0 rfl rfl 5 (by decide) (hts _ q174) (fun _ h9 => h9) rfl (by decide +kernel) rfl rfl (Nat.le_of_ble_eq_true rfl) dX1_init_38 (fun H locs hP hD hS => ?_)
  have hP : va_P D vwCl [(h, .inr (1, [.ref q1_, .int (nI 0), .ref q2_, .ref q3_, .ref q4_, .ref q5_])), (q1_, .inl (cI, 24, .inl (fun k => nI (zf k)))), (q2_, .inl (cI, 5, .inl (fun k => nI (zf k)))), (q3_, .inl (cI, 5, .inl (fun k => nI (zf k)))), (q4_, .inl (cI, 5, .inl (fun k => nI (zf k)))), (q5_, .inl (cZ, 64, .inl (fun k => bI (zb k))))] H := hP
  have hD : va_D (iA h s.heap.size) [(h, .inr (1, [.ref q1_, .int (nI 0), .ref q2_, .ref q3_, .ref q4_, .ref q5_])), (q1_, .inl (cI, 24, .inl (fun k => nI (zf k)))), (q2_, .inl (cI, 5, .inl (fun k => nI (zf k)))), (q3_, .inl (cI, 5, .inl (fun k => nI (zf k)))), (q4_, .inl (cI, 5, .inl (fun k => nI (zf k)))), (q5_, .inl (cZ, 64, .inl (fun k => bI (zb k))))] := hD
  obtain ⟨aa, haa⟩ : ∃ aa : Nat → Nat, aa = (fun i => match i with | 0 => h | 1 => q1_ | 2 => q2_ | 3 => q3_ | 4 => q4_ | _ => q5_) := ⟨_, rfl⟩
  have hat : ∀ i, i < 6 → ∃ e0, ([(h, .inr (1, [.ref q1_, .int (nI 0), .ref q2_, .ref q3_, .ref q4_, .ref q5_])), (q1_, .inl (cI, 24, .inl (fun k => nI (zf k)))), (q2_, .inl (cI, 5, .inl (fun k => nI (zf k)))), (q3_, .inl (cI, 5, .inl (fun k => nI (zf k)))), (q4_, .inl (cI, 5, .inl (fun k => nI (zf k)))), (q5_, .inl (cZ, 64, .inl (fun k => bI (zb k))))] : va_W)[i]? = some (aa i, e0) := by
    intro i hi
    subst haa
    match i, hi with
    | 0, _ => exact ⟨_, rfl⟩
    | 1, _ => exact ⟨_, rfl⟩
    | 2, _ => exact ⟨_, rfl⟩
    | 3, _ => exact ⟨_, rfl⟩
    | 4, _ => exact ⟨_, rfl⟩
    | 5, _ => exact ⟨_, rfl⟩
  have hap : xAp aa 6 := by
    intro i j hi hj hij
    obtain ⟨ei, h1⟩ := hat i hi
    obtain ⟨ej, h2⟩ := hat j hj
    exact hD.1 i j _ _ h1 h2 hij
  have h0 : aa 0 = h := by subst haa; rfl
  have hge : ∀ i, 0 < i → i < 6 → s.heap.size ≤ aa i := by
    intro i hi0 hi
    obtain ⟨ei, h1⟩ := hat i hi
    rcases hD.2 i _ h1 with q | q
    · have : i = 0 := hap i 0 hi (by decide) (by rw [h0]; exact q)
      omega
    · exact q
  have hP9 : va_P D vwCl (mw aa cI cZ zf zf zf zf 0 zb) H := by rw [haa]; exact hP
  exact W.vret hx hb hr (fun t ht hW => ⟨⟨(aa, cI, cZ), rfl, ⟨h0, hap, hge⟩, by rw [ht]; exact hP9, va_K.moved hW.alike hK⟩, hS.F ht⟩) hS.2.2 dX1_init_41
end
section
set_option maxRecDepth 100000
/-! THE CLAIM OUT OF ONE WALK OF THE LAW'S BODY. Your part is whole_start (and what it stands on); all else here is the same for every law, but numbers. -/
def R_law : String := "LeapJoinLaw"
def lw_P (b : Addr) (xs : List Int32) (args : Array Value) (s : State) : Prop := args = #[.ref b] ∧ s.IntsAt b xs ∧ xs.length ≤ 320 ∧ (Jvm.Cond.and given_1 narrow_1).before args s = true
def lw_Q (_ : Array Value) (s : State) (o : Outcome) (t : State) : Prop := o = .returned (some (.int 1)) ∧ Framed s o t [] 600000 7290000
def lw_Z (below : List Frame) (a : Array Value) (s : State) : State → Prop := fun t => ∃ o, t.status = .running ∧ Ended t below o ∧ lw_Q a s o t
/-- the law's own end, with 1 on the stack, nothing written that was there before, its room as the claim has it -/
theorem lw_ret {p : Program} {l : Launch} {e : Env} {s : State} {m : MethodId} {below : List Frame} {meth : Method} {c : Code} {b : Nat} (hx : p.tables.exec = Jvm.exec) (hb : c.code = code) (hr : meth.sig.returnType = ret) (hlocks : meth.locks = false) {pc : Nat} {H : Heap} {ls : Array Slot} (hdg : decode code pc = .ok (.ireturn, 1)) : W p l e room_1 s m #[Value.ref b] below meth c H [] 600000 7290000 (lw_Z below #[Value.ref b] s) (F0 m pc ls [.int 1]) := by
  intro T hT X
  obtain ⟨fs, hret, hrun, hended, hW, hframe⟩ := X.leave (v := some (.int 1)) (hlocks := hlocks) (fun h => by rw [hr] at h; cases h)
  have hmeth' : T.vm.method? m = some meth := X.method'
  refine ⟨T.setFrames fs, ?_, .returned (some (.int 1)), hrun, hended, rfl, ⟨_, rfl⟩, hW, hframe⟩
  jvm_step X.here [X.here.top, hx, hb, hdg, hmeth', hr, ret, narrow_b1]
  (try refine ⟨rfl, ?_⟩); (try refine ⟨rfl, ?_⟩)
  first | (intro acts; rw [hret _ acts rfl rfl rfl]) | rw [hret _ _ rfl rfl rfl]
  exact Steps.refl _
/-- what holds at the law's entry: the machine, the code, the tables' words (any of lw_tbl by 'hts w (by decide +kernel)'), the script of L ints xs at the cell b, what the Statement gives of the start (any of its parts by flat_of_before) -/
def lw_At (p : Program) (s : State) (m : MethodId) (meth : Method) (c : Code) (b L : Nat) (xs : Nat → Int32) : Prop :=
  p.tables.exec = Jvm.exec ∧ c.code = code ∧ meth.sig.returnType = ret ∧ c.maxLocals = 4 ∧ s.vm.findClass R_law = some m.cls ∧ (∀ w ∈ lw_tbl, w.before #[Value.ref b] s = true) ∧ va_X b L xs s s.heap ∧ b < s.heap.size ∧ meth.locks = false ∧ (Jvm.Cond.and given_1 narrow_1).before #[Value.ref b] s = true
end
section
set_option maxRecDepth 100000
section Law
variable {p : Program} {l : Launch} {e : Env} {R : Room} {s : State} {m : MethodId} {args : Array Value} {below : List Frame} {meth : Method} {c : Code} {H H0 : Heap} {locs : List Loc} {cells slots : Nat} {Q : State → Prop} {cc : ByteArray} {pc nL : Nat} {ls : Array Slot} {rest : List Value} {own : String}
variable {D : va_G} {a b : Nat → Nat} {cS cB cI cZ : ClassId} {on bk rl fi se th le : Nat → Nat} {n : Nat} {sn : Nat → Bool}
theorem jX_pair {A0 : Nat → Prop} (S : CallFix p m c cc nL s args lw_all R_law) (hK : va_K D vwCl (tX cS cB) s) (hP : va_P D vwCl (xw a cS cB on bk rl fi se n th le) H) (hA : xAp a 8) {p0 : Int32} {p1 : Int32} {p2 : Int32} {f : Bool} (hI : XI on bk rl fi se n) (hS : va_S A0 H0 H locs) (hA0 : ∀ q, xA a 8 q → A0 q) (hsz : ls.size = nL) (hdg : decode cc pc = .ok (.invokevirtual 13, 3)) (kk : ∀ (H1 : Heap) (locs1 : List Loc) (th' le' : Nat → Nat), va_P D vwCl (xw a cS cB (prOn on p0 p1 p2 f) (prOn bk p0 p2 p1 f) rl fi se n th' le') H1 → (∀ q : Nat, q < H.size → ¬ xA a 8 q → H1[q]? = H[q]?) → va_S A0 H0 H1 locs1 → W p l e R s m args below meth c H1 locs1 cells slots Q (F0 m (pc + 3) ls (.int (bI (prOk p0 p1 p2)) :: rest))) (hR : (rmK 1).frames + 1 ≤ R.frames ∧ 8 + (5 + 11) + (rmK 1).locals ≤ R.locals := by decide) (hW : (rest.map fun v => v.category).sum ≤ 8 := by exact Nat.le_of_ble_eq_true rfl) (hf : cells ≤ R.cells ∧ slots ≤ R.slots := by first | exact ⟨Nat.zero_le _, Nat.zero_le _⟩ | decide) : W p l e R s m args below meth c H locs cells slots Q (F0 m pc ls (.int (bI f) :: .int p2 :: .int p1 :: .int p0 :: .ref (a 0) :: rest)) :=
  wr_V (v := some (.int (bI (prOk p0 p1 p2)))) (PP := fun G => ∃ th le, va_P D vwCl (xw a cS cB (prOn on p0 p1 p2 f) (prOn bk p0 p2 p1 f) rl fi se n th le) G) S hK hK hP (ci := 0) rfl rfl (mX_pair l hP hA p0 p1 p2 f hI) (cwV 4 S.2.2.2.2 (lw_V q53 q54 q55 q16 q56) rfl rfl rfl (by decide +kernel) hR) rfl hsz rfl hW hdg hf hS hA0 (fun H1 locs1 h9 hk hS1 => by obtain ⟨th', le', hP'⟩ := h9; exact kk H1 locs1 th' le' hP' hk hS1)
theorem jX_size (S : CallFix p m c cc nL s args lw_all R_law) (hK : va_K D vwCl (tX cS cB) s) (hP : va_P D vwCl (xw a cS cB on bk rl fi se n th le) H) {p0 : Int32} (hI : XI on bk rl fi se n) (hsz : ls.size = nL) (hdg : decode cc pc = .ok (.invokevirtual 18, 3)) (kk : W p l e R s m args below meth c H locs cells slots Q (F0 m (pc + 3) ls (.int (sizeV on p0) :: rest))) (hR : (rmK 1).frames + 1 ≤ R.frames ∧ 8 + (4 + 11) + (rmK 1).locals ≤ R.locals := by decide) (hW : (rest.map fun v => v.category).sum ≤ 8 := by exact Nat.le_of_ble_eq_true rfl) (hf : cells ≤ R.cells ∧ slots ≤ R.slots := by first | exact ⟨Nat.zero_le _, Nat.zero_le _⟩ | decide) : W p l e R s m args below meth c H locs cells slots Q (F0 m pc ls (.int p0 :: .ref (a 0) :: rest)) :=
  ro_V S hK hK hP (ci := 0) rfl rfl (mX_size l hP p0 hI) (cwV 1 S.2.2.2.2 (lw_V q67 q68 q69 q16 q70) rfl rfl rfl (by decide +kernel) hR) rfl hsz rfl hW hdg hf kk
theorem jX_atom {A0 : Nat → Prop} (S : CallFix p m c cc nL s args lw_all R_law) (hK : va_K D vwCl (tX cS cB) s) (hP : va_P D vwCl (xw a cS cB on bk rl fi se n th le) H) (hA : xAp a 8) {p0 : Int32} {p1 : Int32} {p2 : Int32} (hI : XI on bk rl fi se n) (hS : va_S A0 H0 H locs) (hA0 : ∀ q, xA a 8 q → A0 q) (hsz : ls.size = nL) (hdg : decode cc pc = .ok (.invokevirtual 23, 3)) (kk : ∀ (H1 : Heap) (locs1 : List Loc) (th' le' : Nat → Nat), va_P D vwCl (xw a cS cB on bk (atUp rl n p0 p1 p2 p0) (atUp fi n p0 p1 p2 p1) (atUp se n p0 p1 p2 p2) (atN n p0 p1 p2) th' le') H1 → (∀ q : Nat, q < H.size → ¬ xA a 8 q → H1[q]? = H[q]?) → va_S A0 H0 H1 locs1 → W p l e R s m args below meth c H1 locs1 cells slots Q (F0 m (pc + 3) ls (.int (atV n p0 p1 p2) :: rest))) (hR : (rmK 1).frames + 1 ≤ R.frames ∧ 8 + (4 + 11) + (rmK 1).locals ≤ R.locals := by decide) (hW : (rest.map fun v => v.category).sum ≤ 8 := by exact Nat.le_of_ble_eq_true rfl) (hf : cells ≤ R.cells ∧ slots ≤ R.slots := by first | exact ⟨Nat.zero_le _, Nat.zero_le _⟩ | decide) : W p l e R s m args below meth c H locs cells slots Q (F0 m pc ls (.int p2 :: .int p1 :: .int p0 :: .ref (a 0) :: rest)) :=
  wr_V (v := some (.int (atV n p0 p1 p2))) (PP := fun G => ∃ th le, va_P D vwCl (xw a cS cB on bk (atUp rl n p0 p1 p2 p0) (atUp fi n p0 p1 p2 p1) (atUp se n p0 p1 p2 p2) (atN n p0 p1 p2) th le) G) S hK hK hP (ci := 0) rfl rfl (mX_atom l hP hA p0 p1 p2 hI) (cwV 3 S.2.2.2.2 (lw_V q74 q75 q76 q16 q77) rfl rfl rfl (by decide +kernel) hR) rfl hsz rfl hW hdg hf hS hA0 (fun H1 locs1 h9 hk hS1 => by obtain ⟨th', le', hP'⟩ := h9; exact kk H1 locs1 th' le' hP' hk hS1)
theorem jX_drop {A0 : Nat → Prop} (S : CallFix p m c cc nL s args lw_all R_law) (hK : va_K D vwCl (tX cS cB) s) (hP : va_P D vwCl (xw a cS cB on bk rl fi se n th le) H) (hA : xAp a 8)  (hI : XI on bk rl fi se n) (hS : va_S A0 H0 H locs) (hA0 : ∀ q, xA a 8 q → A0 q) (hsz : ls.size = nL) (hdg : decode cc pc = .ok (.invokevirtual 28, 3)) (kk : ∀ (H1 : Heap) (locs1 : List Loc) (th' le' : Nat → Nat), va_P D vwCl (xw a cS cB on bk rl fi se (n - 1) th' le') H1 → (∀ q : Nat, q < H.size → ¬ xA a 8 q → H1[q]? = H[q]?) → va_S A0 H0 H1 locs1 → W p l e R s m args below meth c H1 locs1 cells slots Q (F0 m (pc + 3) ls (.int (drV n) :: rest))) (hR : (rmK 0).frames + 1 ≤ R.frames ∧ 8 + (1 + 11) + (rmK 0).locals ≤ R.locals := by decide) (hW : (rest.map fun v => v.category).sum ≤ 8 := by exact Nat.le_of_ble_eq_true rfl) (hf : cells ≤ R.cells ∧ slots ≤ R.slots := by first | exact ⟨Nat.zero_le _, Nat.zero_le _⟩ | decide) : W p l e R s m args below meth c H locs cells slots Q (F0 m pc ls (.ref (a 0) :: rest)) :=
  wr_V (v := some (.int (drV n))) (PP := fun G => ∃ th le, va_P D vwCl (xw a cS cB on bk rl fi se (n - 1) th le) G) S hK hK hP (ci := 0) rfl rfl (mX_drop l hP hA hI) (cwV 0 S.2.2.2.2 (lw_V q81 q82 q83 q16 q84) rfl rfl rfl (by decide +kernel) hR) rfl hsz rfl hW hdg hf hS hA0 (fun H1 locs1 h9 hk hS1 => by obtain ⟨th', le', hP'⟩ := h9; exact kk H1 locs1 th' le' hP' hk hS1)
theorem jX_count {A0 : Nat → Prop} (S : CallFix p m c cc nL s args lw_all R_law) (hK : va_K D vwCl (tX cS cB) s) (hP : va_P D vwCl (xw a cS cB on bk rl fi se n th le) H) (hA : xAp a 8)  (hI : XI on bk rl fi se n) (hS : va_S A0 H0 H locs) (hA0 : ∀ q, xA a 8 q → A0 q) (hsz : ls.size = nL) (hdg : decode cc pc = .ok (.invokevirtual 33, 3)) (kk : ∀ (H1 : Heap) (locs1 : List Loc) (th' le' : Nat → Nat), va_P D vwCl (xw a cS cB on bk rl fi se n th' le') H1 → (∀ q : Nat, q < H.size → ¬ xA a 8 q → H1[q]? = H[q]?) → va_S A0 H0 H1 locs1 → W p l e R s m args below meth c H1 locs1 cells slots Q (F0 m (pc + 3) ls (.int (nI (cnt (ansB on rl fi se n) 4096)) :: rest))) (hR : (rmK 5).frames + 1 ≤ R.frames ∧ 8 + (4 + 11) + (rmK 5).locals ≤ R.locals := by decide) (hW : (rest.map fun v => v.category).sum ≤ 8 := by exact Nat.le_of_ble_eq_true rfl) (hf : cells ≤ R.cells ∧ slots ≤ R.slots := by first | exact ⟨Nat.zero_le _, Nat.zero_le _⟩ | decide) : W p l e R s m args below meth c H locs cells slots Q (F0 m pc ls (.ref (a 0) :: rest)) :=
  wr_V (v := some (.int (nI (cnt (ansB on rl fi se n) 4096)))) (PP := fun G => ∃ th le, va_P D vwCl (xw a cS cB on bk rl fi se n th le) G) S hK hK hP (ci := 0) rfl rfl (mX_count l hP hA hI) (cwV 0 S.2.2.2.2 (lw_V q85 q86 q87 q16 q88) rfl rfl rfl (by decide +kernel) hR) rfl hsz rfl hW hdg hf hS hA0 (fun H1 locs1 h9 hk hS1 => by obtain ⟨th', le', hP'⟩ := h9; exact kk H1 locs1 th' le' hP' hk hS1)
theorem jX_answer {A0 : Nat → Prop} (S : CallFix p m c cc nL s args lw_all R_law) (hK : va_K D vwCl (tX cS cB) s) (hP : va_P D vwCl (xw a cS cB on bk rl fi se n th le) H) (hA : xAp a 8) {p0 : Int32} (hI : XI on bk rl fi se n) (hS : va_S A0 H0 H locs) (hA0 : ∀ q, xA a 8 q → A0 q) (hsz : ls.size = nL) (hdg : decode cc pc = .ok (.invokevirtual 37, 3)) (kk : ∀ (H1 : Heap) (locs1 : List Loc) (th' le' : Nat → Nat), va_P D vwCl (xw a cS cB on bk rl fi se n th' le') H1 → (∀ q : Nat, q < H.size → ¬ xA a 8 q → H1[q]? = H[q]?) → va_S A0 H0 H1 locs1 → W p l e R s m args below meth c H1 locs1 cells slots Q (F0 m (pc + 3) ls (.int (akV (ansB on rl fi se n) p0) :: rest))) (hR : (rmK 5).frames + 1 ≤ R.frames ∧ 8 + (4 + 11) + (rmK 5).locals ≤ R.locals := by decide) (hW : (rest.map fun v => v.category).sum ≤ 8 := by exact Nat.le_of_ble_eq_true rfl) (hf : cells ≤ R.cells ∧ slots ≤ R.slots := by first | exact ⟨Nat.zero_le _, Nat.zero_le _⟩ | decide) : W p l e R s m args below meth c H locs cells slots Q (F0 m pc ls (.int p0 :: .ref (a 0) :: rest)) :=
  wr_V (v := some (.int (akV (ansB on rl fi se n) p0))) (PP := fun G => ∃ th le, va_P D vwCl (xw a cS cB on bk rl fi se n th le) G) S hK hK hP (ci := 0) rfl rfl (mX_answer l hP hA p0 hI) (cwV 1 S.2.2.2.2 (lw_V q130 q131 q132 q16 q133) rfl rfl rfl (by decide +kernel) hR) rfl hsz rfl hW hdg hf hS hA0 (fun H1 locs1 h9 hk hS1 => by obtain ⟨th', le', hP'⟩ := h9; exact kk H1 locs1 th' le' hP' hk hS1)
theorem jX_seek {A0 : Nat → Prop} (S : CallFix p m c cc nL s args lw_all R_law) (hK : va_K D vwCl (tX cS cB) s) (hP : va_P D vwCl (xw a cS cB on bk rl fi se n th le) H) (hA : xAp a 8) {p0 : Int32} (hI : XI on bk rl fi se n) (hS : va_S A0 H0 H locs) (hA0 : ∀ q, xA a 8 q → A0 q) (hsz : ls.size = nL) (hdg : decode cc pc = .ok (.invokevirtual 41, 3)) (kk : ∀ (H1 : Heap) (locs1 : List Loc) (th' le' : Nat → Nat), va_P D vwCl (xw a cS cB on bk rl fi se n th' le') H1 → (∀ q : Nat, q < H.size → ¬ xA a 8 q → H1[q]? = H[q]?) → va_S A0 H0 H1 locs1 → W p l e R s m args below meth c H1 locs1 cells slots Q (F0 m (pc + 3) ls (.int (skV (ansB on rl fi se n) p0) :: rest))) (hR : (rmK 5).frames + 1 ≤ R.frames ∧ 8 + (2 + 11) + (rmK 5).locals ≤ R.locals := by decide) (hW : (rest.map fun v => v.category).sum ≤ 8 := by exact Nat.le_of_ble_eq_true rfl) (hf : cells ≤ R.cells ∧ slots ≤ R.slots := by first | exact ⟨Nat.zero_le _, Nat.zero_le _⟩ | decide) : W p l e R s m args below meth c H locs cells slots Q (F0 m pc ls (.int p0 :: .ref (a 0) :: rest)) :=
  wr_V (v := some (.int (skV (ansB on rl fi se n) p0))) (PP := fun G => ∃ th le, va_P D vwCl (xw a cS cB on bk rl fi se n th le) G) S hK hK hP (ci := 0) rfl rfl (mX_seek l hP hA p0 hI) (cwV 1 S.2.2.2.2 (lw_V q134 q135 q136 q16 q137) rfl rfl rfl (by decide +kernel) hR) rfl hsz rfl hW hdg hf hS hA0 (fun H1 locs1 h9 hk hS1 => by obtain ⟨th', le', hP'⟩ := h9; exact kk H1 locs1 th' le' hP' hk hS1)
theorem jX_values {A0 : Nat → Prop} (S : CallFix p m c cc nL s args lw_all R_law) (hK : va_K D vwCl (tX cS cB) s) (hP : va_P D vwCl (xw a cS cB on bk rl fi se n th le) H) (hA : xAp a 8) {p0 : Int32} (hI : XI on bk rl fi se n) (hS : va_S A0 H0 H locs) (hA0 : ∀ q, xA a 8 q → A0 q) (hsz : ls.size = nL) (hdg : decode cc pc = .ok (.invokevirtual 45, 3)) (kk : ∀ (H1 : Heap) (locs1 : List Loc) (th' le' : Nat → Nat), va_P D vwCl (xw a cS cB on bk rl fi se n th' le') H1 → (∀ q : Nat, q < H.size → ¬ xA a 8 q → H1[q]? = H[q]?) → va_S A0 H0 H1 locs1 → W p l e R s m args below meth c H1 locs1 cells slots Q (F0 m (pc + 3) ls (.int (vaV (ansB on rl fi se n) p0) :: rest))) (hR : (rmK 5).frames + 1 ≤ R.frames ∧ 8 + (5 + 11) + (rmK 5).locals ≤ R.locals := by decide) (hW : (rest.map fun v => v.category).sum ≤ 8 := by exact Nat.le_of_ble_eq_true rfl) (hf : cells ≤ R.cells ∧ slots ≤ R.slots := by first | exact ⟨Nat.zero_le _, Nat.zero_le _⟩ | decide) : W p l e R s m args below meth c H locs cells slots Q (F0 m pc ls (.int p0 :: .ref (a 0) :: rest)) :=
  wr_V (v := some (.int (vaV (ansB on rl fi se n) p0))) (PP := fun G => ∃ th le, va_P D vwCl (xw a cS cB on bk rl fi se n th le) G) S hK hK hP (ci := 0) rfl rfl (mX_values l hP hA p0 hI) (cwV 1 S.2.2.2.2 (lw_V q138 q139 q140 q16 q141) rfl rfl rfl (by decide +kernel) hR) rfl hsz rfl hW hdg hf hS hA0 (fun H1 locs1 h9 hk hS1 => by obtain ⟨th', le', hP'⟩ := h9; exact kk H1 locs1 th' le' hP' hk hS1)
theorem jX_countWith {A0 : Nat → Prop} (S : CallFix p m c cc nL s args lw_all R_law) (hK : va_K D vwCl (tX cS cB) s) (hP : va_P D vwCl (xw a cS cB on bk rl fi se n th le) H) (hA : xAp a 8) {p0 : Int32} {p1 : Int32} (hI : XI on bk rl fi se n) (hS : va_S A0 H0 H locs) (hA0 : ∀ q, xA a 8 q → A0 q) (hsz : ls.size = nL) (hdg : decode cc pc = .ok (.invokevirtual 49, 3)) (kk : ∀ (H1 : Heap) (locs1 : List Loc) (th' le' : Nat → Nat), va_P D vwCl (xw a cS cB on bk rl fi se n th' le') H1 → (∀ q : Nat, q < H.size → ¬ xA a 8 q → H1[q]? = H[q]?) → va_S A0 H0 H1 locs1 → W p l e R s m args below meth c H1 locs1 cells slots Q (F0 m (pc + 3) ls (.int (cwV_ (ansB on rl fi se n) p0 p1) :: rest))) (hR : (rmK 5).frames + 1 ≤ R.frames ∧ 8 + (6 + 11) + (rmK 5).locals ≤ R.locals := by decide) (hW : (rest.map fun v => v.category).sum ≤ 8 := by exact Nat.le_of_ble_eq_true rfl) (hf : cells ≤ R.cells ∧ slots ≤ R.slots := by first | exact ⟨Nat.zero_le _, Nat.zero_le _⟩ | decide) : W p l e R s m args below meth c H locs cells slots Q (F0 m pc ls (.int p1 :: .int p0 :: .ref (a 0) :: rest)) :=
  wr_V (v := some (.int (cwV_ (ansB on rl fi se n) p0 p1))) (PP := fun G => ∃ th le, va_P D vwCl (xw a cS cB on bk rl fi se n th le) G) S hK hK hP (ci := 0) rfl rfl (mX_countWith l hP hA p0 p1 hI) (cwV 2 S.2.2.2.2 (lw_V q142 q143 q144 q16 q145) rfl rfl rfl (by decide +kernel) hR) rfl hsz rfl hW hdg hf hS hA0 (fun H1 locs1 h9 hk hS1 => by obtain ⟨th', le', hP'⟩ := h9; exact kk H1 locs1 th' le' hP' hk hS1)
theorem jX_holds {A0 : Nat → Prop} (S : CallFix p m c cc nL s args lw_all R_law) (hK : va_K D vwCl (tX cS cB) s) (hP : va_P D vwCl (xw a cS cB on bk rl fi se n th le) H) (hA : xAp a 8) {p0 : Int32} (hI : XI on bk rl fi se n) (hS : va_S A0 H0 H locs) (hA0 : ∀ q, xA a 8 q → A0 q) (hsz : ls.size = nL) (hdg : decode cc pc = .ok (.invokevirtual 54, 3)) (kk : ∀ (H1 : Heap) (locs1 : List Loc) (th' le' : Nat → Nat), va_P D vwCl (xw a cS cB on bk rl fi se n th' le') H1 → (∀ q : Nat, q < H.size → ¬ xA a 8 q → H1[q]? = H[q]?) → va_S A0 H0 H1 locs1 → W p l e R s m args below meth c H1 locs1 cells slots Q (F0 m (pc + 3) ls (.int (bI (hoV (ansB on rl fi se n) p0)) :: rest))) (hR : (rmK 5).frames + 1 ≤ R.frames ∧ 8 + (2 + 11) + (rmK 5).locals ≤ R.locals := by decide) (hW : (rest.map fun v => v.category).sum ≤ 8 := by exact Nat.le_of_ble_eq_true rfl) (hf : cells ≤ R.cells ∧ slots ≤ R.slots := by first | exact ⟨Nat.zero_le _, Nat.zero_le _⟩ | decide) : W p l e R s m args below meth c H locs cells slots Q (F0 m pc ls (.int p0 :: .ref (a 0) :: rest)) :=
  wr_V (v := some (.int (bI (hoV (ansB on rl fi se n) p0)))) (PP := fun G => ∃ th le, va_P D vwCl (xw a cS cB on bk rl fi se n th le) G) S hK hK hP (ci := 0) rfl rfl (mX_holds l hP hA p0 hI) (cwV 1 S.2.2.2.2 (lw_V q146 q147 q148 q16 q149) rfl rfl rfl (by decide +kernel) hR) rfl hsz rfl hW hdg hf hS hA0 (fun H1 locs1 h9 hk hS1 => by obtain ⟨th', le', hP'⟩ := h9; exact kk H1 locs1 th' le' hP' hk hS1)
theorem jX_pairs {A0 : Nat → Prop} (S : CallFix p m c cc nL s args lw_all R_law) (hK : va_K D vwCl (tX cS cB) s) (hP : va_P D vwCl (xw a cS cB on bk rl fi se n th le) H) (hA : xAp a 8) {p0 : Int32} {p1 : Int32} (hI : XI on bk rl fi se n) (hS : va_S A0 H0 H locs) (hA0 : ∀ q, xA a 8 q → A0 q) (hsz : ls.size = nL) (hdg : decode cc pc = .ok (.invokevirtual 59, 3)) (kk : ∀ (H1 : Heap) (locs1 : List Loc) (th' le' : Nat → Nat), va_P D vwCl (xw a cS cB on bk rl fi se n th' le') H1 → (∀ q : Nat, q < H.size → ¬ xA a 8 q → H1[q]? = H[q]?) → va_S A0 H0 H1 locs1 → W p l e R s m args below meth c H1 locs1 cells slots Q (F0 m (pc + 3) ls (.int (nI (paV (ansB on rl fi se n) p0 p1)) :: rest))) (hR : (rmK 5).frames + 1 ≤ R.frames ∧ 8 + (8 + 11) + (rmK 5).locals ≤ R.locals := by decide) (hW : (rest.map fun v => v.category).sum ≤ 8 := by exact Nat.le_of_ble_eq_true rfl) (hf : cells ≤ R.cells ∧ slots ≤ R.slots := by first | exact ⟨Nat.zero_le _, Nat.zero_le _⟩ | decide) : W p l e R s m args below meth c H locs cells slots Q (F0 m pc ls (.int p1 :: .int p0 :: .ref (a 0) :: rest)) :=
  wr_V (v := some (.int (nI (paV (ansB on rl fi se n) p0 p1)))) (PP := fun G => ∃ th le, va_P D vwCl (xw a cS cB on bk rl fi se n th le) G) S hK hK hP (ci := 0) rfl rfl (mX_pairs l hP hA p0 p1 hI) (cwV 2 S.2.2.2.2 (lw_V q150 q151 q152 q16 q153) rfl rfl rfl (by decide +kernel) hR) rfl hsz rfl hW hdg hf hS hA0 (fun H1 locs1 h9 hk hS1 => by obtain ⟨th', le', hP'⟩ := h9; exact kk H1 locs1 th' le' hP' hk hS1)
theorem jX_loss {A0 : Nat → Prop} (S : CallFix p m c cc nL s args lw_all R_law) (hK : va_K D vwCl (tX cS cB) s) (hP : va_P D vwCl (xw a cS cB on bk rl fi se n th le) H) (hA : xAp a 8) {p0 : Int32} {p1 : Int32} {p2 : Int32} (hI : XI on bk rl fi se n) (hS : va_S A0 H0 H locs) (hA0 : ∀ q, xA a 8 q → A0 q) (hsz : ls.size = nL) (hdg : decode cc pc = .ok (.invokevirtual 63, 3)) (kk : ∀ (H1 : Heap) (locs1 : List Loc) (th' le' : Nat → Nat), va_P D vwCl (xw a cS cB on bk rl fi se n th' le') H1 → (∀ q : Nat, q < H.size → ¬ xA a 8 q → H1[q]? = H[q]?) → va_S A0 H0 H1 locs1 → W p l e R s m args below meth c H1 locs1 cells slots Q (F0 m (pc + 3) ls (.int (loV on rl fi se n p0 p1 p2) :: rest))) (hR : (rmK 6).frames + 1 ≤ R.frames ∧ 8 + (6 + 11) + (rmK 6).locals ≤ R.locals := by decide) (hW : (rest.map fun v => v.category).sum ≤ 8 := by exact Nat.le_of_ble_eq_true rfl) (hf : cells ≤ R.cells ∧ slots ≤ R.slots := by first | exact ⟨Nat.zero_le _, Nat.zero_le _⟩ | decide) : W p l e R s m args below meth c H locs cells slots Q (F0 m pc ls (.int p2 :: .int p1 :: .int p0 :: .ref (a 0) :: rest)) :=
  wr_V (v := some (.int (loV on rl fi se n p0 p1 p2))) (PP := fun G => ∃ th le, va_P D vwCl (xw a cS cB on bk rl fi se n th le) G) S hK hK hP (ci := 0) rfl rfl (mX_loss l hP hA p0 p1 p2 hI) (cwV 3 S.2.2.2.2 (lw_V q154 q155 q156 q16 q157) rfl rfl rfl (by decide +kernel) hR) rfl hsz rfl hW hdg hf hS hA0 (fun H1 locs1 h9 hk hS1 => by obtain ⟨th', le', hP'⟩ := h9; exact kk H1 locs1 th' le' hP' hk hS1)
theorem jX_partners (S : CallFix p m c cc nL s args lw_all R_law) (hK : va_K D vwCl (tX cS cB) s) (hP : va_P D vwCl (xw a cS cB on bk rl fi se n th le) H) {p0 : Int32} {p1 : Int32} {p2 : Int32}  (hsz : ls.size = nL) (hdg : decode cc pc = .ok (.invokevirtual 67, 3)) (kk : W p l e R s m args below meth c H locs cells slots Q (F0 m (pc + 3) ls (.int (ptV on bk p0 p1 p2) :: rest))) (hR : (rmK 1).frames + 1 ≤ R.frames ∧ 8 + (4 + 11) + (rmK 1).locals ≤ R.locals := by decide) (hW : (rest.map fun v => v.category).sum ≤ 8 := by exact Nat.le_of_ble_eq_true rfl) (hf : cells ≤ R.cells ∧ slots ≤ R.slots := by first | exact ⟨Nat.zero_le _, Nat.zero_le _⟩ | decide) : W p l e R s m args below meth c H locs cells slots Q (F0 m pc ls (.int p2 :: .int p1 :: .int p0 :: .ref (a 0) :: rest)) :=
  ro_V S hK hK hP (ci := 0) rfl rfl (mX_partners l hP p0 p1 p2) (cwV 3 S.2.2.2.2 (lw_V q159 q160 q161 q16 q162) rfl rfl rfl (by decide +kernel) hR) rfl hsz rfl hW hdg hf kk
theorem jM_pair {A0 : Nat → Prop} (S : CallFix p m c cc nL s args lw_all R_law) (hK : va_K D vwCl (tM cI cZ) s) (hP : va_P D vwCl (mw b cI cZ on rl fi se n sn) H) (hA : xAp b 6) {p0 : Int32} {p1 : Int32} {p2 : Int32} {f : Bool} (hI : XI on bk rl fi se n) (hS : va_S A0 H0 H locs) (hA0 : ∀ q, xA b 6 q → A0 q) (hsz : ls.size = nL) (hdg : decode cc pc = .ok (.invokevirtual 17, 3)) (kk : ∀ (H1 : Heap) (locs1 : List Loc) (sn' : Nat → Bool), va_P D vwCl (mw b cI cZ (prOn on p0 p1 p2 f) rl fi se n sn') H1 → (∀ q : Nat, q < H.size → ¬ xA b 6 q → H1[q]? = H[q]?) → va_S A0 H0 H1 locs1 → W p l e R s m args below meth c H1 locs1 cells slots Q (F0 m (pc + 3) ls (.int (bI (prOk p0 p1 p2)) :: rest))) (hR : (rmK 1).frames + 1 ≤ R.frames ∧ 8 + (5 + 11) + (rmK 1).locals ≤ R.locals := by decide) (hW : (rest.map fun v => v.category).sum ≤ 8 := by exact Nat.le_of_ble_eq_true rfl) (hf : cells ≤ R.cells ∧ slots ≤ R.slots := by first | exact ⟨Nat.zero_le _, Nat.zero_le _⟩ | decide) : W p l e R s m args below meth c H locs cells slots Q (F0 m pc ls (.int (bI f) :: .int p2 :: .int p1 :: .int p0 :: .ref (b 0) :: rest)) :=
  wr_V (v := some (.int (bI (prOk p0 p1 p2)))) (PP := fun G => ∃ sn, va_P D vwCl (mw b cI cZ (prOn on p0 p1 p2 f) rl fi se n sn) G) S hK hK hP (ci := 1) rfl rfl (mM_pair l hP hA p0 p1 p2 f hI) (cwV 4 S.2.2.2.2 (lw_V q190 q191 q192 q17 q193) rfl rfl rfl (by decide +kernel) hR) rfl hsz rfl hW hdg hf hS hA0 (fun H1 locs1 h9 hk hS1 => by obtain ⟨sn', hP'⟩ := h9; exact kk H1 locs1 sn' hP' hk hS1)
theorem jM_size (S : CallFix p m c cc nL s args lw_all R_law) (hK : va_K D vwCl (tM cI cZ) s) (hP : va_P D vwCl (mw b cI cZ on rl fi se n sn) H) {p0 : Int32} (hI : XI on bk rl fi se n) (hsz : ls.size = nL) (hdg : decode cc pc = .ok (.invokevirtual 22, 3)) (kk : W p l e R s m args below meth c H locs cells slots Q (F0 m (pc + 3) ls (.int (sizeV on p0) :: rest))) (hR : (rmK 1).frames + 1 ≤ R.frames ∧ 8 + (4 + 11) + (rmK 1).locals ≤ R.locals := by decide) (hW : (rest.map fun v => v.category).sum ≤ 8 := by exact Nat.le_of_ble_eq_true rfl) (hf : cells ≤ R.cells ∧ slots ≤ R.slots := by first | exact ⟨Nat.zero_le _, Nat.zero_le _⟩ | decide) : W p l e R s m args below meth c H locs cells slots Q (F0 m pc ls (.int p0 :: .ref (b 0) :: rest)) :=
  ro_V S hK hK hP (ci := 1) rfl rfl (mM_size l hP p0 hI) (cwV 1 S.2.2.2.2 (lw_V q202 q203 q204 q17 q205) rfl rfl rfl (by decide +kernel) hR) rfl hsz rfl hW hdg hf kk
theorem jM_atom {A0 : Nat → Prop} (S : CallFix p m c cc nL s args lw_all R_law) (hK : va_K D vwCl (tM cI cZ) s) (hP : va_P D vwCl (mw b cI cZ on rl fi se n sn) H) (hA : xAp b 6) {p0 : Int32} {p1 : Int32} {p2 : Int32} (hI : XI on bk rl fi se n) (hS : va_S A0 H0 H locs) (hA0 : ∀ q, xA b 6 q → A0 q) (hsz : ls.size = nL) (hdg : decode cc pc = .ok (.invokevirtual 27, 3)) (kk : ∀ (H1 : Heap) (locs1 : List Loc) (sn' : Nat → Bool), va_P D vwCl (mw b cI cZ on (atUp rl n p0 p1 p2 p0) (atUp fi n p0 p1 p2 p1) (atUp se n p0 p1 p2 p2) (atN n p0 p1 p2) sn') H1 → (∀ q : Nat, q < H.size → ¬ xA b 6 q → H1[q]? = H[q]?) → va_S A0 H0 H1 locs1 → W p l e R s m args below meth c H1 locs1 cells slots Q (F0 m (pc + 3) ls (.int (atV n p0 p1 p2) :: rest))) (hR : (rmK 1).frames + 1 ≤ R.frames ∧ 8 + (4 + 11) + (rmK 1).locals ≤ R.locals := by decide) (hW : (rest.map fun v => v.category).sum ≤ 8 := by exact Nat.le_of_ble_eq_true rfl) (hf : cells ≤ R.cells ∧ slots ≤ R.slots := by first | exact ⟨Nat.zero_le _, Nat.zero_le _⟩ | decide) : W p l e R s m args below meth c H locs cells slots Q (F0 m pc ls (.int p2 :: .int p1 :: .int p0 :: .ref (b 0) :: rest)) :=
  wr_V (v := some (.int (atV n p0 p1 p2))) (PP := fun G => ∃ sn, va_P D vwCl (mw b cI cZ on (atUp rl n p0 p1 p2 p0) (atUp fi n p0 p1 p2 p1) (atUp se n p0 p1 p2 p2) (atN n p0 p1 p2) sn) G) S hK hK hP (ci := 1) rfl rfl (mM_atom l hP hA p0 p1 p2 hI) (cwV 3 S.2.2.2.2 (lw_V q210 q211 q212 q17 q213) rfl rfl rfl (by decide +kernel) hR) rfl hsz rfl hW hdg hf hS hA0 (fun H1 locs1 h9 hk hS1 => by obtain ⟨sn', hP'⟩ := h9; exact kk H1 locs1 sn' hP' hk hS1)
theorem jM_drop {A0 : Nat → Prop} (S : CallFix p m c cc nL s args lw_all R_law) (hK : va_K D vwCl (tM cI cZ) s) (hP : va_P D vwCl (mw b cI cZ on rl fi se n sn) H) (hA : xAp b 6)  (hI : XI on bk rl fi se n) (hS : va_S A0 H0 H locs) (hA0 : ∀ q, xA b 6 q → A0 q) (hsz : ls.size = nL) (hdg : decode cc pc = .ok (.invokevirtual 32, 3)) (kk : ∀ (H1 : Heap) (locs1 : List Loc) (sn' : Nat → Bool), va_P D vwCl (mw b cI cZ on rl fi se (n - 1) sn') H1 → (∀ q : Nat, q < H.size → ¬ xA b 6 q → H1[q]? = H[q]?) → va_S A0 H0 H1 locs1 → W p l e R s m args below meth c H1 locs1 cells slots Q (F0 m (pc + 3) ls (.int (drV n) :: rest))) (hR : (rmK 0).frames + 1 ≤ R.frames ∧ 8 + (1 + 11) + (rmK 0).locals ≤ R.locals := by decide) (hW : (rest.map fun v => v.category).sum ≤ 8 := by exact Nat.le_of_ble_eq_true rfl) (hf : cells ≤ R.cells ∧ slots ≤ R.slots := by first | exact ⟨Nat.zero_le _, Nat.zero_le _⟩ | decide) : W p l e R s m args below meth c H locs cells slots Q (F0 m pc ls (.ref (b 0) :: rest)) :=
  wr_V (v := some (.int (drV n))) (PP := fun G => ∃ sn, va_P D vwCl (mw b cI cZ on rl fi se (n - 1) sn) G) S hK hK hP (ci := 1) rfl rfl (mM_drop l hP hA hI) (cwV 0 S.2.2.2.2 (lw_V q218 q219 q220 q17 q221) rfl rfl rfl (by decide +kernel) hR) rfl hsz rfl hW hdg hf hS hA0 (fun H1 locs1 h9 hk hS1 => by obtain ⟨sn', hP'⟩ := h9; exact kk H1 locs1 sn' hP' hk hS1)
theorem jM_count (S : CallFix p m c cc nL s args lw_all R_law) (hK : va_K D vwCl (tM cI cZ) s) (hP : va_P D vwCl (mw b cI cZ on rl fi se n sn) H)  (hI : XI on bk rl fi se n) (hsz : ls.size = nL) (hdg : decode cc pc = .ok (.invokevirtual 36, 3)) (kk : W p l e R s m args below meth c H locs cells slots Q (F0 m (pc + 3) ls (.int (nI (cnt (ansB on rl fi se n) 4096)) :: rest))) (hR : (rmK 2).frames + 1 ≤ R.frames ∧ 8 + (3 + 11) + (rmK 2).locals ≤ R.locals := by decide) (hW : (rest.map fun v => v.category).sum ≤ 8 := by exact Nat.le_of_ble_eq_true rfl) (hf : cells ≤ R.cells ∧ slots ≤ R.slots := by first | exact ⟨Nat.zero_le _, Nat.zero_le _⟩ | decide) : W p l e R s m args below meth c H locs cells slots Q (F0 m pc ls (.ref (b 0) :: rest)) :=
  ro_V S hK hK hP (ci := 1) rfl rfl (mM_count l hP hI) (cwV 0 S.2.2.2.2 (lw_V q222 q223 q224 q17 q225) rfl rfl rfl (by decide +kernel) hR) rfl hsz rfl hW hdg hf kk
theorem jM_answer (S : CallFix p m c cc nL s args lw_all R_law) (hK : va_K D vwCl (tM cI cZ) s) (hP : va_P D vwCl (mw b cI cZ on rl fi se n sn) H) {p0 : Int32} (hI : XI on bk rl fi se n) (hsz : ls.size = nL) (hdg : decode cc pc = .ok (.invokevirtual 40, 3)) (kk : W p l e R s m args below meth c H locs cells slots Q (F0 m (pc + 3) ls (.int (akV (ansB on rl fi se n) p0) :: rest))) (hR : (rmK 2).frames + 1 ≤ R.frames ∧ 8 + (4 + 11) + (rmK 2).locals ≤ R.locals := by decide) (hW : (rest.map fun v => v.category).sum ≤ 8 := by exact Nat.le_of_ble_eq_true rfl) (hf : cells ≤ R.cells ∧ slots ≤ R.slots := by first | exact ⟨Nat.zero_le _, Nat.zero_le _⟩ | decide) : W p l e R s m args below meth c H locs cells slots Q (F0 m pc ls (.int p0 :: .ref (b 0) :: rest)) :=
  ro_V S hK hK hP (ci := 1) rfl rfl (mM_answer l hP p0 hI) (cwV 1 S.2.2.2.2 (lw_V q234 q235 q236 q17 q237) rfl rfl rfl (by decide +kernel) hR) rfl hsz rfl hW hdg hf kk
theorem jM_seek (S : CallFix p m c cc nL s args lw_all R_law) (hK : va_K D vwCl (tM cI cZ) s) (hP : va_P D vwCl (mw b cI cZ on rl fi se n sn) H) {p0 : Int32} (hI : XI on bk rl fi se n) (hsz : ls.size = nL) (hdg : decode cc pc = .ok (.invokevirtual 44, 3)) (kk : W p l e R s m args below meth c H locs cells slots Q (F0 m (pc + 3) ls (.int (skV (ansB on rl fi se n) p0) :: rest))) (hR : (rmK 2).frames + 1 ≤ R.frames ∧ 8 + (3 + 11) + (rmK 2).locals ≤ R.locals := by decide) (hW : (rest.map fun v => v.category).sum ≤ 8 := by exact Nat.le_of_ble_eq_true rfl) (hf : cells ≤ R.cells ∧ slots ≤ R.slots := by first | exact ⟨Nat.zero_le _, Nat.zero_le _⟩ | decide) : W p l e R s m args below meth c H locs cells slots Q (F0 m pc ls (.int p0 :: .ref (b 0) :: rest)) :=
  ro_V S hK hK hP (ci := 1) rfl rfl (mM_seek l hP p0 hI) (cwV 1 S.2.2.2.2 (lw_V q238 q239 q240 q17 q241) rfl rfl rfl (by decide +kernel) hR) rfl hsz rfl hW hdg hf kk
theorem jM_values (S : CallFix p m c cc nL s args lw_all R_law) (hK : va_K D vwCl (tM cI cZ) s) (hP : va_P D vwCl (mw b cI cZ on rl fi se n sn) H) {p0 : Int32} (hI : XI on bk rl fi se n) (hsz : ls.size = nL) (hdg : decode cc pc = .ok (.invokevirtual 48, 3)) (kk : W p l e R s m args below meth c H locs cells slots Q (F0 m (pc + 3) ls (.int (vaV (ansB on rl fi se n) p0) :: rest))) (hR : (rmK 2).frames + 1 ≤ R.frames ∧ 8 + (4 + 11) + (rmK 2).locals ≤ R.locals := by decide) (hW : (rest.map fun v => v.category).sum ≤ 8 := by exact Nat.le_of_ble_eq_true rfl) (hf : cells ≤ R.cells ∧ slots ≤ R.slots := by first | exact ⟨Nat.zero_le _, Nat.zero_le _⟩ | decide) : W p l e R s m args below meth c H locs cells slots Q (F0 m pc ls (.int p0 :: .ref (b 0) :: rest)) :=
  ro_V S hK hK hP (ci := 1) rfl rfl (mM_values l hP p0 hI) (cwV 1 S.2.2.2.2 (lw_V q242 q243 q244 q17 q245) rfl rfl rfl (by decide +kernel) hR) rfl hsz rfl hW hdg hf kk
theorem jM_countWith (S : CallFix p m c cc nL s args lw_all R_law) (hK : va_K D vwCl (tM cI cZ) s) (hP : va_P D vwCl (mw b cI cZ on rl fi se n sn) H) {p0 : Int32} {p1 : Int32} (hI : XI on bk rl fi se n) (hsz : ls.size = nL) (hdg : decode cc pc = .ok (.invokevirtual 53, 3)) (kk : W p l e R s m args below meth c H locs cells slots Q (F0 m (pc + 3) ls (.int (cwV_ (ansB on rl fi se n) p0 p1) :: rest))) (hR : (rmK 2).frames + 1 ≤ R.frames ∧ 8 + (5 + 11) + (rmK 2).locals ≤ R.locals := by decide) (hW : (rest.map fun v => v.category).sum ≤ 8 := by exact Nat.le_of_ble_eq_true rfl) (hf : cells ≤ R.cells ∧ slots ≤ R.slots := by first | exact ⟨Nat.zero_le _, Nat.zero_le _⟩ | decide) : W p l e R s m args below meth c H locs cells slots Q (F0 m pc ls (.int p1 :: .int p0 :: .ref (b 0) :: rest)) :=
  ro_V S hK hK hP (ci := 1) rfl rfl (mM_countWith l hP p0 p1 hI) (cwV 2 S.2.2.2.2 (lw_V q246 q247 q248 q17 q249) rfl rfl rfl (by decide +kernel) hR) rfl hsz rfl hW hdg hf kk
theorem jM_holds (S : CallFix p m c cc nL s args lw_all R_law) (hK : va_K D vwCl (tM cI cZ) s) (hP : va_P D vwCl (mw b cI cZ on rl fi se n sn) H) {p0 : Int32} (hI : XI on bk rl fi se n) (hsz : ls.size = nL) (hdg : decode cc pc = .ok (.invokevirtual 58, 3)) (kk : W p l e R s m args below meth c H locs cells slots Q (F0 m (pc + 3) ls (.int (bI (hoV (ansB on rl fi se n) p0)) :: rest))) (hR : (rmK 2).frames + 1 ≤ R.frames ∧ 8 + (2 + 11) + (rmK 2).locals ≤ R.locals := by decide) (hW : (rest.map fun v => v.category).sum ≤ 8 := by exact Nat.le_of_ble_eq_true rfl) (hf : cells ≤ R.cells ∧ slots ≤ R.slots := by first | exact ⟨Nat.zero_le _, Nat.zero_le _⟩ | decide) : W p l e R s m args below meth c H locs cells slots Q (F0 m pc ls (.int p0 :: .ref (b 0) :: rest)) :=
  ro_V S hK hK hP (ci := 1) rfl rfl (mM_holds l hP p0 hI) (cwV 1 S.2.2.2.2 (lw_V q250 q251 q252 q17 q253) rfl rfl rfl (by decide +kernel) hR) rfl hsz rfl hW hdg hf kk
theorem jM_pairs {A0 : Nat → Prop} (S : CallFix p m c cc nL s args lw_all R_law) (hK : va_K D vwCl (tM cI cZ) s) (hP : va_P D vwCl (mw b cI cZ on rl fi se n sn) H) (hA : xAp b 6) {p0 : Int32} {p1 : Int32} (hI : XI on bk rl fi se n) (hS : va_S A0 H0 H locs) (hA0 : ∀ q, xA b 6 q → A0 q) (hsz : ls.size = nL) (hdg : decode cc pc = .ok (.invokevirtual 62, 3)) (kk : ∀ (H1 : Heap) (locs1 : List Loc) (sn' : Nat → Bool), va_P D vwCl (mw b cI cZ on rl fi se n sn') H1 → (∀ q : Nat, q < H.size → ¬ xA b 6 q → H1[q]? = H[q]?) → va_S A0 H0 H1 locs1 → W p l e R s m args below meth c H1 locs1 cells slots Q (F0 m (pc + 3) ls (.int (nI (paV (ansB on rl fi se n) p0 p1)) :: rest))) (hR : (rmK 2).frames + 1 ≤ R.frames ∧ 8 + (6 + 11) + (rmK 2).locals ≤ R.locals := by decide) (hW : (rest.map fun v => v.category).sum ≤ 8 := by exact Nat.le_of_ble_eq_true rfl) (hf : cells ≤ R.cells ∧ slots ≤ R.slots := by first | exact ⟨Nat.zero_le _, Nat.zero_le _⟩ | decide) : W p l e R s m args below meth c H locs cells slots Q (F0 m pc ls (.int p1 :: .int p0 :: .ref (b 0) :: rest)) :=
  wr_V (v := some (.int (nI (paV (ansB on rl fi se n) p0 p1)))) (PP := fun G => ∃ sn, va_P D vwCl (mw b cI cZ on rl fi se n sn) G) S hK hK hP (ci := 1) rfl rfl (mM_pairs l hP hA p0 p1 hI) (cwV 2 S.2.2.2.2 (lw_V q254 q255 q256 q17 q257) rfl rfl rfl (by decide +kernel) hR) rfl hsz rfl hW hdg hf hS hA0 (fun H1 locs1 h9 hk hS1 => by obtain ⟨sn', hP'⟩ := h9; exact kk H1 locs1 sn' hP' hk hS1)
theorem jM_loss {A0 : Nat → Prop} (S : CallFix p m c cc nL s args lw_all R_law) (hK : va_K D vwCl (tM cI cZ) s) (hP : va_P D vwCl (mw b cI cZ on rl fi se n sn) H) (hA : xAp b 6) {p0 : Int32} {p1 : Int32} {p2 : Int32} (hI : XI on bk rl fi se n) (hS : va_S A0 H0 H locs) (hA0 : ∀ q, xA b 6 q → A0 q) (hsz : ls.size = nL) (hdg : decode cc pc = .ok (.invokevirtual 66, 3)) (kk : ∀ (H1 : Heap) (locs1 : List Loc) (sn' : Nat → Bool), va_P D vwCl (mw b cI cZ on rl fi se n sn') H1 → (∀ q : Nat, q < H.size → ¬ xA b 6 q → H1[q]? = H[q]?) → va_S A0 H0 H1 locs1 → W p l e R s m args below meth c H1 locs1 cells slots Q (F0 m (pc + 3) ls (.int (loV on rl fi se n p0 p1 p2) :: rest))) (hR : (rmK 3).frames + 1 ≤ R.frames ∧ 8 + (6 + 11) + (rmK 3).locals ≤ R.locals := by decide) (hW : (rest.map fun v => v.category).sum ≤ 8 := by exact Nat.le_of_ble_eq_true rfl) (hf : cells ≤ R.cells ∧ slots ≤ R.slots := by first | exact ⟨Nat.zero_le _, Nat.zero_le _⟩ | decide) : W p l e R s m args below meth c H locs cells slots Q (F0 m pc ls (.int p2 :: .int p1 :: .int p0 :: .ref (b 0) :: rest)) :=
  wr_V (v := some (.int (loV on rl fi se n p0 p1 p2))) (PP := fun G => ∃ sn, va_P D vwCl (mw b cI cZ on rl fi se n sn) G) S hK hK hP (ci := 1) rfl rfl (mM_loss l hP hA p0 p1 p2 hI) (cwV 3 S.2.2.2.2 (lw_V q258 q259 q260 q17 q261) rfl rfl rfl (by decide +kernel) hR) rfl hsz rfl hW hdg hf hS hA0 (fun H1 locs1 h9 hk hS1 => by obtain ⟨sn', hP'⟩ := h9; exact kk H1 locs1 sn' hP' hk hS1)
theorem jM_partners (S : CallFix p m c cc nL s args lw_all R_law) (hK : va_K D vwCl (tM cI cZ) s) (hP : va_P D vwCl (mw b cI cZ on rl fi se n sn) H) {p0 : Int32} {p1 : Int32} {p2 : Int32} (hI : XI on bk rl fi se n) (hsz : ls.size = nL) (hdg : decode cc pc = .ok (.invokevirtual 70, 3)) (kk : W p l e R s m args below meth c H locs cells slots Q (F0 m (pc + 3) ls (.int (ptV on bk p0 p1 p2) :: rest))) (hR : (rmK 1).frames + 1 ≤ R.frames ∧ 8 + (7 + 11) + (rmK 1).locals ≤ R.locals := by decide) (hW : (rest.map fun v => v.category).sum ≤ 8 := by exact Nat.le_of_ble_eq_true rfl) (hf : cells ≤ R.cells ∧ slots ≤ R.slots := by first | exact ⟨Nat.zero_le _, Nat.zero_le _⟩ | decide) : W p l e R s m args below meth c H locs cells slots Q (F0 m pc ls (.int p2 :: .int p1 :: .int p0 :: .ref (b 0) :: rest)) :=
  ro_V S hK hK hP (ci := 1) rfl rfl (mM_partners l hP p0 p1 p2 hI) (cwV 3 S.2.2.2.2 (lw_V q264 q265 q266 q17 q267) rfl rfl rfl (by decide +kernel) hR) rfl hsz rfl hW hdg hf kk
theorem keepX {H1 : Heap} {A1 : Nat → Prop} (hP : va_P D vwCl (xw a cS cB on bk rl fi se n th le) H) (hk : ∀ q : Nat, q < H.size → ¬ A1 q → H1[q]? = H[q]?) (hd : ∀ i, i < 8 → ¬ A1 (a i)) : va_P D vwCl (xw a cS cB on bk rl fi se n th le) H1 :=
  hP.kept (fun k q hq => hk q.1 (hP k q hq).lt (by have h9 := xw_at hq; rw [h9.2]; exact hd k h9.1))
theorem keepM {H1 : Heap} {A1 : Nat → Prop} (hP : va_P D vwCl (mw b cI cZ on rl fi se n sn) H) (hk : ∀ q : Nat, q < H.size → ¬ A1 q → H1[q]? = H[q]?) (hd : ∀ i, i < 6 → ¬ A1 (b i)) : va_P D vwCl (mw b cI cZ on rl fi se n sn) H1 :=
  hP.kept (fun k q hq => hk q.1 (hP k q hq).lt (by have h9 := mw_at hq; rw [h9.2]; exact hd k h9.1))
theorem lS {Ts : List Cond} (S : CallFix p m c cc nL s args Ts own) {b0 L : Nat} {xs : Nat → Int32} {A : Nat → Prop} (hX : va_X b0 L xs s H0) (hbl : b0 < H0.size) (hbA : ¬ A b0) (hS : va_S A H0 H locs) (hL : L ≤ 320) {j : Nat} (hj : j < L) (hdg : decode cc pc = .ok (.iaload, 1)) (kk : W p l e R s m args below meth c H locs cells slots Q (F0 m (pc + 1) ls (.int (xs j) :: rest))) : W p l e R s m args below meth c H locs cells slots Q (F0 m pc ls (.int (nI j) :: .ref b0 :: rest)) :=
  va_sld S.1 S.2.1 hX hbl hbA hS (vp_in_nI hj (by omega)) hdg (by rw [nI_clamp (by omega)]; exact kk)
theorem law_lt {L i : Nat} (hL : L ≤ 320) (hi : i ≤ 320) : nI L - nI 5 < nI i ↔ L < i + 5 := by
  rw [Int32.lt_iff_toInt_lt, pk_sub_toInt (by omega) (by decide), nI_toInt (by omega)]
  omega
end Law
end
section
set_option maxRecDepth 100000
set_option maxHeartbeats 4000000 in
theorem whole_start {p : Program} {e : Env} {s : State} {m : MethodId} {below : List Frame} {meth : Method} {c : Code} (l : Launch) {b L : Nat} {xs : Nat → Int32} (hL : L ≤ 320) (C0 : lw_At p s m meth c b L xs) : W p l e room_1 s m #[Value.ref b] below meth c s.heap [] 0 0 (lw_Z below #[Value.ref b] s) (entryFrame m ([Value.ref b] : List Value).toArray 4) := by
  obtain ⟨hx, hb, hr, hml, hown, hts0, hX, hbl, hlocks, hgv⟩ := id C0
  have hts : ∀ w ∈ lw_all, w.before #[Value.ref b] s = true := fun w h => hts0 w (lw_all_tbl h)
  have S : CallFix p m c cL_law 4 s #[Value.ref b] lw_all R_law := ⟨hx, hb, hml, hown, hts⟩
  have hA : ∀ q : Nat, s.heap.size ≤ q → (fun q : Nat => s.heap.size ≤ q) q := fun _ h => h
  have hbA : ¬ (fun q : Nat => s.heap.size ≤ q) b := Nat.not_le.mpr hbl
  obtain ⟨c0, iS0, hKn0⟩ := u_known (C := RX0) (T := TX0) (N := 8) (n := 8) hts in_X0 (hts _ q19)
  obtain ⟨c1, iS1, hKn1⟩ := u_known (C := RX1) (T := TX1) (N := 6) (n := 6) hts in_X1 (hts _ q164)
  obtain ⟨D, hKc⟩ : ∃ D : va_G, ∀ (k : Nat) (q : vw_C), vwCl[k]? = some q → u_Kn s q.1 q.2.1 q.2.2 (D.1 k) (D.2 k) := by
    refine ⟨(fun k => if k = 0 then c0 else c1, fun k => if k = 0 then iS0 else iS1), ?_⟩
    intro k q hq
    match k, hq with
    | 0, hq => cases hq; exact hKn0
    | 1, hq => cases hq; exact hKn1
    | k + 2, hq => simp [vwCl] at hq
  have hS : va_S (fun q : Nat => s.heap.size ≤ q) s.heap s.heap [] := va_S.rf
  have hK : va_K D vwCl [] s := ⟨hKc, fun k q h => by simp at h⟩
  have hP : va_P D vwCl [] s.heap := fun k q h => by simp at h
  have hD : va_D (fun q : Nat => s.heap.size ≤ q) [] := ⟨fun i j p q h => by simp at h, fun k q h => by simp at h⟩
  have hl := lv_entry ([.ref b]) (n := 4) (Nat.le_of_ble_eq_true rfl)
  rw [lg_entry_eq]
  generalize (lg_sl ([.ref b]) ++ List.replicate (4 - (lg_sl ([.ref b])).length) Slot.unset).toArray = ls at hl ⊢
  have hl : lv_has ls 4 [(0, .ref b)] := hl
  refine va_new (ci := 0) (fs := [.null, .null, .null, .null, .null, .int (nI 0), .null, .null]) (C := RX0) (T := TX0) (N := 8) hx hb hts in_X0 tyX0 tyX0_ok hown (hts _ q18) (hts _ q19) (hts _ q16) hK hP hD hS hA rfl (fun j hj => by rcases (show j = 0 ∨ j = 1 ∨ j = 2 ∨ j = 3 ∨ j = 4 ∨ j = 5 ∨ j = 6 ∨ j = 7 by omega) with rfl | rfl | rfl | rfl | rfl | rfl | rfl | rfl <;> rfl) (Nat.le_of_ble_eq_true rfl) (Nat.le_of_ble_eq_true rfl) dL_law_0 (fun q0 H hP hD hS => ?_)
  have hP : va_P D vwCl [(q0, .inr (0, [.null, .null, .null, .null, .null, .int (nI 0), .null, .null]))] H := hP
  have hA0 : s.heap.size ≤ q0 := hD.2 0 _ rfl
  refine W.widen (k := 1) (n := 8) (by omega) (by omega) ?_
  refine lv_dup hx hb dL_law_3 rfl ?_
  refine va_callv (va_runI (As := []) (rest := [.ref q0]) S (mX_init l q0 H.size) (cwI 0 hts (lw_meth q22) rfl rfl rfl (hts _ q16) (hts _ q20) (hts _ q21) rfl (by decide +kernel) ⟨Nat.le_of_ble_eq_true rfl, Nat.le_of_ble_eq_true rfl⟩) ⟨fun a U g mk q => ⟨q.1, q.2.1, q.2.2.1, va_K.moved (u := U) (U := U.calling g mk a) (Vm.Alike.refl U.vm) q.2.2.2⟩, fun U hU hW => ⟨rfl, by rw [hU], by rw [hU]; exact hP, va_K.moved hW.alike hK⟩⟩ rfl rfl hl.1 rfl (lv_room (Nat.le_of_ble_eq_true rfl)) dL_law_4 ⟨Nat.le_of_ble_eq_true rfl, Nat.le_of_ble_eq_true rfl⟩) hS (fun q _ h => h.elim (fun e => by rw [e]; exact hA0) (fun e => Nat.le_trans hS.1 e)) (fun q h => h.elim (fun e => by rw [e]; exact hA0) (fun e => Nat.le_trans hS.1 e)) (fun u t H1 locs ht hvm hpost hB hz1 hk1 hS1 => ?_)
  obtain ⟨xa, cS, cB⟩ := u
  obtain ⟨h0, hapX, hge⟩ := hpost
  obtain ⟨hPX, hKX⟩ := hB
  rw [ht] at hPX
  have hKX := va_K.moved hvm.symm hKX
  have h0 : xa 0 = q0 := h0
  have hPX : va_P D vwCl (xw xa cS cB zf zf zf zf zf 0 zf zf) H1 := hPX
  have hKX : va_K D vwCl (tX cS cB) s := hKX
  have hAX : ∀ q, xA xa 8 q → s.heap.size ≤ q := by
    rintro q ⟨i, hi, rfl⟩
    rcases Nat.eq_zero_or_pos i with e | e
    · rw [e, h0]; exact hA0
    · exact Nat.le_trans hS.1 (hge i e hi)
  rw [← h0]
  clear hge hk1 hz1 hvm ht
  have hS := hS1
  refine W.widen (k := 8) (n := 79) (by omega) (by omega) ?_
  refine lv_astore_n (lv' := [(1, .ref (xa 0)), (0, .ref b)]) hx hb dL_law_7 rfl hl (by decide) rfl (fun ls hl => ?_)
  have hD : va_D (fun q : Nat => s.heap.size ≤ q) (xw xa cS cB zf zf zf zf zf 0 zf zf) := (xD hapX).weaken (fun _ _ _ h => hAX _ h)
  refine va_new (ci := 1) (fs := [.null, .int (nI 0), .null, .null, .null, .null]) (C := RX1) (T := TX1) (N := 6) hx hb hts in_X1 tyX1 tyX1_ok hown (hts _ q163) (hts _ q164) (hts _ q17) hK hPX hD hS hA rfl (fun j hj => by rcases (show j = 0 ∨ j = 1 ∨ j = 2 ∨ j = 3 ∨ j = 4 ∨ j = 5 by omega) with rfl | rfl | rfl | rfl | rfl | rfl <;> rfl) (Nat.le_of_ble_eq_true rfl) (Nat.le_of_ble_eq_true rfl) dL_law_8 (fun q1 H hP hD hS => ?_)
  have hPX := hP.sub (ws' := xw xa cS cB zf zf zf zf zf 0 zf zf) [0, 1, 2, 3, 4, 5, 6, 7] rfl
  have hP : va_P D vwCl [(q1, .inr (1, [.null, .int (nI 0), .null, .null, .null, .null]))] H := hP.sub [8] rfl
  have hA1 : s.heap.size ≤ q1 := hD.2 8 _ rfl
  have hne : ∀ i, i < 8 → xa i ≠ q1 := by
    intro i hi e
    match i, hi with
    | 0, _ => exact absurd (hD.1 0 8 _ _ rfl rfl e) (by decide)
    | 1, _ => exact absurd (hD.1 1 8 _ _ rfl rfl e) (by decide)
    | 2, _ => exact absurd (hD.1 2 8 _ _ rfl rfl e) (by decide)
    | 3, _ => exact absurd (hD.1 3 8 _ _ rfl rfl e) (by decide)
    | 4, _ => exact absurd (hD.1 4 8 _ _ rfl rfl e) (by decide)
    | 5, _ => exact absurd (hD.1 5 8 _ _ rfl rfl e) (by decide)
    | 6, _ => exact absurd (hD.1 6 8 _ _ rfl rfl e) (by decide)
    | 7, _ => exact absurd (hD.1 7 8 _ _ rfl rfl e) (by decide)
  have hlt : ∀ i, i < 8 → xa i < H.size := by
    intro i hi
    match i, hi with
    | 0, _ => exact (hPX 0 _ rfl).lt
    | 1, _ => exact (hPX 1 _ rfl).lt
    | 2, _ => exact (hPX 2 _ rfl).lt
    | 3, _ => exact (hPX 3 _ rfl).lt
    | 4, _ => exact (hPX 4 _ rfl).lt
    | 5, _ => exact (hPX 5 _ rfl).lt
    | 6, _ => exact (hPX 6 _ rfl).lt
    | 7, _ => exact (hPX 7 _ rfl).lt
  refine W.widen (k := 9) (n := 85) (by omega) (by omega) ?_
  refine lv_dup hx hb dL_law_11 rfl ?_
  refine va_callv (va_runI (As := []) (rest := [.ref q1]) S (mM_init l q1 H.size) (cwI 0 hts (lw_meth q167) rfl rfl rfl (hts _ q17) (hts _ q165) (hts _ q166) rfl (by decide +kernel) ⟨Nat.le_of_ble_eq_true rfl, Nat.le_of_ble_eq_true rfl⟩) ⟨fun a U g mk q => ⟨q.1, q.2.1, q.2.2.1, va_K.moved (u := U) (U := U.calling g mk a) (Vm.Alike.refl U.vm) q.2.2.2⟩, fun U hU hW => ⟨rfl, by rw [hU], by rw [hU]; exact hP, va_K.moved hW.alike hK⟩⟩ rfl rfl hl.1 rfl (lv_room (Nat.le_of_ble_eq_true rfl)) dL_law_12 ⟨Nat.le_of_ble_eq_true rfl, Nat.le_of_ble_eq_true rfl⟩) hS (fun q _ h => h.elim (fun e => by rw [e]; exact hA1) (fun e => Nat.le_trans hS.1 e)) (fun q h => h.elim (fun e => by rw [e]; exact hA1) (fun e => Nat.le_trans hS.1 e)) (fun u t H1 locs ht hvm hpost hB hz1 hk1 hS1 => ?_)
  obtain ⟨mb, cI, cZ⟩ := u
  obtain ⟨h1, hapM, hge⟩ := hpost
  obtain ⟨hPM, hKM⟩ := hB
  rw [ht] at hPM
  have hKM := va_K.moved hvm.symm hKM
  have h1 : mb 0 = q1 := h1
  have hPM : va_P D vwCl (mw mb cI cZ zf zf zf zf 0 zb) H1 := hPM
  have hKM : va_K D vwCl (tM cI cZ) s := hKM
  have hAM : ∀ q, xA mb 6 q → s.heap.size ≤ q := by
    rintro q ⟨i, hi, rfl⟩
    rcases Nat.eq_zero_or_pos i with e | e
    · rw [e, h1]; exact hA1
    · exact Nat.le_trans hS.1 (hge i e hi)
  have hPX := keepX hPX hk1 (fun i hi q => q.elim (fun e => hne i hi e) (fun e => absurd (hlt i hi) (Nat.not_lt.mpr e)))
  have hxm : ∀ i j, i < 8 → j < 6 → xa i ≠ mb j := by
    intro i j hi hj e
    rcases Nat.eq_zero_or_pos j with e2 | e2
    · rw [e2, h1] at e; exact hne i hi e
    · have g1 := hge j e2 hj
      have g2 := hlt i hi
      rw [e] at g2
      exact absurd g2 (Nat.not_lt.mpr g1)
  have hdX : ∀ j, j < 6 → ¬ xA xa 8 (mb j) := fun j hj => fun ⟨i, hi, e⟩ => hxm i j hi hj e.symm
  have hdM : ∀ i, i < 8 → ¬ xA mb 6 (xa i) := fun i hi => fun ⟨j, hj, e⟩ => hxm i j hi hj e
  rw [← h1]
  clear hge hk1 hz1 hvm ht hne hlt hxm hD
  have hS := hS1
  refine W.widen (k := 14) (n := 188) (by omega) (by omega) ?_
  refine lv_astore_n (lv' := [(2, .ref (mb 0)), (1, .ref (xa 0)), (0, .ref b)]) hx hb dL_law_15 rfl hl (by decide) rfl (fun ls hl => ?_)
  refine lv_iconst (v := (nI 0)) S.1 S.2.1 dL_law_16 (by decide) ?_
  refine lv_istore_n (lv' := [(3, .int (nI 0)), (2, .ref (mb 0)), (1, .ref (xa 0)), (0, .ref b)]) S.1 S.2.1 dL_law_17 rfl hl (by decide) rfl (fun ls hl => ?_)
  have hI0 : XI zf zf zf zf zf 0 := ⟨fun _ => (by decide : (0 : Nat) < 256), fun _ => (by decide : (0 : Nat) < 256), fun _ => (by decide : (0 : Nat) < 3), fun _ => (by decide : (0 : Nat) < 4), fun _ => (by decide : (0 : Nat) < 4), by decide, fun _ _ _ _ _ _ => by show Nat.testBit 0 _ = Nat.testBit 0 _; rw [Nat.zero_testBit, Nat.zero_testBit]⟩
  refine loopW (α := Nat) (fun i H locs ls => lv_has ls 4 [(3, .int (nI i)), (2, .ref (mb 0)), (1, .ref (xa 0)), (0, .ref b)] ∧ (∃ (on bk rl fi se : Nat → Nat) (n : Nat) (th le : Nat → Nat) (sn : Nat → Bool), va_P D vwCl (xw xa cS cB on bk rl fi se n th le) H ∧ va_P D vwCl (mw mb cI cZ on rl fi se n sn) H ∧ XI on bk rl fi se n) ∧ va_S (fun q : Nat => s.heap.size ≤ q) s.heap H locs ∧ i ≤ L) (fun i => L - i) (fun i H locs ls hJ ih => ?_) 0 H1 locs ls ⟨lv_sub hl [0, 1, 2, 3] rfl, ⟨zf, zf, zf, zf, zf, 0, zf, zf, zb, hPX, hPM, hI0⟩, hS, Nat.zero_le _⟩
  obtain ⟨hl, ⟨on, bk, rl, fi, se, n, th, le, sn, hPX, hPM, hI⟩, hS, hi⟩ := hJ
  refine lv_iload_n S.1 S.2.1 dL_law_18 rfl (lv_at hl 0 rfl) ?_
  refine lv_aload_n S.1 S.2.1 dL_law_19 rfl (lv_at hl 3 rfl) ?_
  refine va_slen S.1 S.2.1 hX hbl hbA hS dL_law_20 ?_
  refine n_top (y := nI L) rfl ?_
  refine lv_iconst (v := (nI 5)) S.1 S.2.1 dL_law_21 (by decide) ?_
  refine lv_isub S.1 S.2.1 dL_law_22 ?_
  refine lv_icmp_gt (tgt := 511) S.1 S.2.1 dL_law_23 (by decide) (fun h1 => ?_) (fun h1 => ?_)
  · refine lv_iconst (v := 1) S.1 S.2.1 dL_law_511 (by decide) ?_
    refine va_forget (fun q h => hS.2.2 q h) ?_
    refine W.widen (k := 600000) (n := 7290000) (by decide) (by decide) ?_
    exact lw_ret hx hb hr hlocks dL_law_512
  · rw [law_lt hL (by omega)] at h1
    have h5 : i + 5 ≤ L := by omega
    refine lv_aload_n S.1 S.2.1 dL_law_26 rfl (lv_at hl 3 rfl) ?_
    refine lv_iload_n S.1 S.2.1 dL_law_27 rfl (lv_at hl 0 rfl) ?_
    refine lS S hX hbl hbA hS hL (j := i) (by omega) dL_law_28 ?_
    refine lv_bipush (v := nI 15) S.1 S.2.1 dL_law_29 (by decide) ?_
    refine lv_iand S.1 S.2.1 dL_law_31 ?_
    obtain ⟨j, hj, ej⟩ := nm_and15 (xs i)
    refine n_top ej ?_
    rcases (show j = 0 ∨ j = 1 ∨ j = 2 ∨ j = 3 ∨ j = 4 ∨ j = 5 ∨ j = 6 ∨ j = 7 ∨ j = 8 ∨ j = 9 ∨ j = 10 ∨ j = 11 ∨ j = 12 ∨ 13 ≤ j by omega) with rfl | rfl | rfl | rfl | rfl | rfl | rfl | rfl | rfl | rfl | rfl | rfl | rfl | hj13
    · refine lv_tableIn (off := 68) (tgt := 100) S.1 S.2.1 dL_law_32 (by decide) (by decide) (by decide) (by decide) ?_
      refine lv_aload_n S.1 S.2.1 dL_law_100 rfl (lv_at hl 2 rfl) ?_
      refine lv_aload_n S.1 S.2.1 dL_law_101 rfl (lv_at hl 3 rfl) ?_
      refine lv_iload_n S.1 S.2.1 dL_law_102 rfl (lv_at hl 0 rfl) ?_
      refine lv_iconst (v := (nI 1)) S.1 S.2.1 dL_law_103 (by decide) ?_
      refine n_iadd S dL_law_104 ?_
      refine lS S hX hbl hbA hS hL (j := i + 1) (by omega) dL_law_105 ?_
      refine lv_aload_n S.1 S.2.1 dL_law_106 rfl (lv_at hl 3 rfl) ?_
      refine lv_iload_n S.1 S.2.1 dL_law_107 rfl (lv_at hl 0 rfl) ?_
      refine lv_iconst (v := (nI 2)) S.1 S.2.1 dL_law_108 (by decide) ?_
      refine n_iadd S dL_law_109 ?_
      refine lS S hX hbl hbA hS hL (j := i + 2) (by omega) dL_law_110 ?_
      refine lv_aload_n S.1 S.2.1 dL_law_111 rfl (lv_at hl 3 rfl) ?_
      refine lv_iload_n S.1 S.2.1 dL_law_112 rfl (lv_at hl 0 rfl) ?_
      refine lv_iconst (v := (nI 3)) S.1 S.2.1 dL_law_113 (by decide) ?_
      refine n_iadd S dL_law_114 ?_
      refine lS S hX hbl hbA hS hL (j := i + 3) (by omega) dL_law_115 ?_
      refine lv_aload_n S.1 S.2.1 dL_law_116 rfl (lv_at hl 3 rfl) ?_
      refine lv_iload_n S.1 S.2.1 dL_law_117 rfl (lv_at hl 0 rfl) ?_
      refine lv_iconst (v := (nI 4)) S.1 S.2.1 dL_law_118 (by decide) ?_
      refine n_iadd S dL_law_119 ?_
      refine lS S hX hbl hbA hS hL (j := i + 4) (by omega) dL_law_120 ?_
      refine i_ifeq (l1 := 128) (l2 := 129) S dL_law_121 (by decide) dL_law_124 dL_law_125 (by decide) dL_law_128 rfl ?_
      refine jX_pair S hKX hPX hapX (p0 := xs (i + 1)) (p1 := xs (i + 2)) (p2 := xs (i + 3)) (f := xs (i + 4) != 0) hI hS hAX hl.1 dL_law_129 (fun H locs th le hPX hk hS => ?_)
      have hPM := keepM hPM hk hdX
      refine lv_aload_n S.1 S.2.1 dL_law_132 rfl (lv_at hl 1 rfl) ?_
      refine lv_aload_n S.1 S.2.1 dL_law_133 rfl (lv_at hl 3 rfl) ?_
      refine lv_iload_n S.1 S.2.1 dL_law_134 rfl (lv_at hl 0 rfl) ?_
      refine lv_iconst (v := (nI 1)) S.1 S.2.1 dL_law_135 (by decide) ?_
      refine n_iadd S dL_law_136 ?_
      refine lS S hX hbl hbA hS hL (j := i + 1) (by omega) dL_law_137 ?_
      refine lv_aload_n S.1 S.2.1 dL_law_138 rfl (lv_at hl 3 rfl) ?_
      refine lv_iload_n S.1 S.2.1 dL_law_139 rfl (lv_at hl 0 rfl) ?_
      refine lv_iconst (v := (nI 2)) S.1 S.2.1 dL_law_140 (by decide) ?_
      refine n_iadd S dL_law_141 ?_
      refine lS S hX hbl hbA hS hL (j := i + 2) (by omega) dL_law_142 ?_
      refine lv_aload_n S.1 S.2.1 dL_law_143 rfl (lv_at hl 3 rfl) ?_
      refine lv_iload_n S.1 S.2.1 dL_law_144 rfl (lv_at hl 0 rfl) ?_
      refine lv_iconst (v := (nI 3)) S.1 S.2.1 dL_law_145 (by decide) ?_
      refine n_iadd S dL_law_146 ?_
      refine lS S hX hbl hbA hS hL (j := i + 3) (by omega) dL_law_147 ?_
      refine lv_aload_n S.1 S.2.1 dL_law_148 rfl (lv_at hl 3 rfl) ?_
      refine lv_iload_n S.1 S.2.1 dL_law_149 rfl (lv_at hl 0 rfl) ?_
      refine lv_iconst (v := (nI 4)) S.1 S.2.1 dL_law_150 (by decide) ?_
      refine n_iadd S dL_law_151 ?_
      refine lS S hX hbl hbA hS hL (j := i + 4) (by omega) dL_law_152 ?_
      refine i_ifeq (l1 := 160) (l2 := 161) S dL_law_153 (by decide) dL_law_156 dL_law_157 (by decide) dL_law_160 rfl ?_
      refine jM_pair S hKM hPM hapM (p0 := xs (i + 1)) (p1 := xs (i + 2)) (p2 := xs (i + 3)) (f := xs (i + 4) != 0) hI hS hAM hl.1 dL_law_161 (fun H locs sn hPM hk hS => ?_)
      have hPX := keepX hPX hk hdM
      refine lv_icmp_eq (tgt := 505) S.1 S.2.1 dL_law_164 (by decide) (fun _ => ?_) (fun h9 => absurd rfl h9)
      refine lv_iinc (v := nI (i + 5)) (k := 0) (lv' := [(3, .int (nI (i + 5))), (2, .ref (mb 0)), (1, .ref (xa 0)), (0, .ref b)]) S.1 S.2.1 dL_law_505 hl rfl (nI_add i 5) (by decide) rfl (fun ls hl => ?_)
      refine lv_goto (tgt := 18) S.1 S.2.1 dL_law_508 (by decide) ?_
      exact ih (i + 5) H locs ls ⟨lv_sub hl [0, 1, 2, 3] rfl, ⟨_, _, rl, fi, se, n, th, le, sn, hPX, hPM, XI_pr hI⟩, hS, h5⟩ (by omega)
    · refine lv_tableIn (off := 137) (tgt := 169) S.1 S.2.1 dL_law_32 (by decide) (by decide) (by decide) (by decide) ?_
      refine lv_aload_n S.1 S.2.1 dL_law_169 rfl (lv_at hl 2 rfl) ?_
      refine lv_aload_n S.1 S.2.1 dL_law_170 rfl (lv_at hl 3 rfl) ?_
      refine lv_iload_n S.1 S.2.1 dL_law_171 rfl (lv_at hl 0 rfl) ?_
      refine lv_iconst (v := (nI 1)) S.1 S.2.1 dL_law_172 (by decide) ?_
      refine n_iadd S dL_law_173 ?_
      refine lS S hX hbl hbA hS hL (j := i + 1) (by omega) dL_law_174 ?_
      refine jX_size S hKX hPX (p0 := xs (i + 1)) hI hl.1 dL_law_175 ?_
      refine lv_aload_n S.1 S.2.1 dL_law_178 rfl (lv_at hl 1 rfl) ?_
      refine lv_aload_n S.1 S.2.1 dL_law_179 rfl (lv_at hl 3 rfl) ?_
      refine lv_iload_n S.1 S.2.1 dL_law_180 rfl (lv_at hl 0 rfl) ?_
      refine lv_iconst (v := (nI 1)) S.1 S.2.1 dL_law_181 (by decide) ?_
      refine n_iadd S dL_law_182 ?_
      refine lS S hX hbl hbA hS hL (j := i + 1) (by omega) dL_law_183 ?_
      refine jM_size S hKM hPM (p0 := xs (i + 1)) hI hl.1 dL_law_184 ?_
      refine lv_icmp_eq (tgt := 505) S.1 S.2.1 dL_law_187 (by decide) (fun _ => ?_) (fun h9 => absurd rfl h9)
      refine lv_iinc (v := nI (i + 5)) (k := 0) (lv' := [(3, .int (nI (i + 5))), (2, .ref (mb 0)), (1, .ref (xa 0)), (0, .ref b)]) S.1 S.2.1 dL_law_505 hl rfl (nI_add i 5) (by decide) rfl (fun ls hl => ?_)
      refine lv_goto (tgt := 18) S.1 S.2.1 dL_law_508 (by decide) ?_
      exact ih (i + 5) H locs ls ⟨lv_sub hl [0, 1, 2, 3] rfl, ⟨on, bk, rl, fi, se, n, th, le, sn, hPX, hPM, hI⟩, hS, h5⟩ (by omega)
    · refine lv_tableIn (off := 160) (tgt := 192) S.1 S.2.1 dL_law_32 (by decide) (by decide) (by decide) (by decide) ?_
      refine lv_aload_n S.1 S.2.1 dL_law_192 rfl (lv_at hl 2 rfl) ?_
      refine lv_aload_n S.1 S.2.1 dL_law_193 rfl (lv_at hl 3 rfl) ?_
      refine lv_iload_n S.1 S.2.1 dL_law_194 rfl (lv_at hl 0 rfl) ?_
      refine lv_iconst (v := (nI 1)) S.1 S.2.1 dL_law_195 (by decide) ?_
      refine n_iadd S dL_law_196 ?_
      refine lS S hX hbl hbA hS hL (j := i + 1) (by omega) dL_law_197 ?_
      refine lv_aload_n S.1 S.2.1 dL_law_198 rfl (lv_at hl 3 rfl) ?_
      refine lv_iload_n S.1 S.2.1 dL_law_199 rfl (lv_at hl 0 rfl) ?_
      refine lv_iconst (v := (nI 2)) S.1 S.2.1 dL_law_200 (by decide) ?_
      refine n_iadd S dL_law_201 ?_
      refine lS S hX hbl hbA hS hL (j := i + 2) (by omega) dL_law_202 ?_
      refine lv_aload_n S.1 S.2.1 dL_law_203 rfl (lv_at hl 3 rfl) ?_
      refine lv_iload_n S.1 S.2.1 dL_law_204 rfl (lv_at hl 0 rfl) ?_
      refine lv_iconst (v := (nI 3)) S.1 S.2.1 dL_law_205 (by decide) ?_
      refine n_iadd S dL_law_206 ?_
      refine lS S hX hbl hbA hS hL (j := i + 3) (by omega) dL_law_207 ?_
      refine jX_atom S hKX hPX hapX (p0 := xs (i + 1)) (p1 := xs (i + 2)) (p2 := xs (i + 3)) hI hS hAX hl.1 dL_law_208 (fun H locs th le hPX hk hS => ?_)
      have hPM := keepM hPM hk hdX
      refine lv_aload_n S.1 S.2.1 dL_law_211 rfl (lv_at hl 1 rfl) ?_
      refine lv_aload_n S.1 S.2.1 dL_law_212 rfl (lv_at hl 3 rfl) ?_
      refine lv_iload_n S.1 S.2.1 dL_law_213 rfl (lv_at hl 0 rfl) ?_
      refine lv_iconst (v := (nI 1)) S.1 S.2.1 dL_law_214 (by decide) ?_
      refine n_iadd S dL_law_215 ?_
      refine lS S hX hbl hbA hS hL (j := i + 1) (by omega) dL_law_216 ?_
      refine lv_aload_n S.1 S.2.1 dL_law_217 rfl (lv_at hl 3 rfl) ?_
      refine lv_iload_n S.1 S.2.1 dL_law_218 rfl (lv_at hl 0 rfl) ?_
      refine lv_iconst (v := (nI 2)) S.1 S.2.1 dL_law_219 (by decide) ?_
      refine n_iadd S dL_law_220 ?_
      refine lS S hX hbl hbA hS hL (j := i + 2) (by omega) dL_law_221 ?_
      refine lv_aload_n S.1 S.2.1 dL_law_222 rfl (lv_at hl 3 rfl) ?_
      refine lv_iload_n S.1 S.2.1 dL_law_223 rfl (lv_at hl 0 rfl) ?_
      refine lv_iconst (v := (nI 3)) S.1 S.2.1 dL_law_224 (by decide) ?_
      refine n_iadd S dL_law_225 ?_
      refine lS S hX hbl hbA hS hL (j := i + 3) (by omega) dL_law_226 ?_
      refine jM_atom S hKM hPM hapM (p0 := xs (i + 1)) (p1 := xs (i + 2)) (p2 := xs (i + 3)) hI hS hAM hl.1 dL_law_227 (fun H locs sn hPM hk hS => ?_)
      have hPX := keepX hPX hk hdM
      refine lv_icmp_eq (tgt := 505) S.1 S.2.1 dL_law_230 (by decide) (fun _ => ?_) (fun h9 => absurd rfl h9)
      refine lv_iinc (v := nI (i + 5)) (k := 0) (lv' := [(3, .int (nI (i + 5))), (2, .ref (mb 0)), (1, .ref (xa 0)), (0, .ref b)]) S.1 S.2.1 dL_law_505 hl rfl (nI_add i 5) (by decide) rfl (fun ls hl => ?_)
      refine lv_goto (tgt := 18) S.1 S.2.1 dL_law_508 (by decide) ?_
      exact ih (i + 5) H locs ls ⟨lv_sub hl [0, 1, 2, 3] rfl, ⟨on, bk, _, _, _, _, th, le, sn, hPX, hPM, XI_at hI⟩, hS, h5⟩ (by omega)
    · refine lv_tableIn (off := 203) (tgt := 235) S.1 S.2.1 dL_law_32 (by decide) (by decide) (by decide) (by decide) ?_
      refine lv_aload_n S.1 S.2.1 dL_law_235 rfl (lv_at hl 2 rfl) ?_
      refine jX_drop S hKX hPX hapX  hI hS hAX hl.1 dL_law_236 (fun H locs th le hPX hk hS => ?_)
      have hPM := keepM hPM hk hdX
      refine lv_aload_n S.1 S.2.1 dL_law_239 rfl (lv_at hl 1 rfl) ?_
      refine jM_drop S hKM hPM hapM  hI hS hAM hl.1 dL_law_240 (fun H locs sn hPM hk hS => ?_)
      have hPX := keepX hPX hk hdM
      refine lv_icmp_eq (tgt := 505) S.1 S.2.1 dL_law_243 (by decide) (fun _ => ?_) (fun h9 => absurd rfl h9)
      refine lv_iinc (v := nI (i + 5)) (k := 0) (lv' := [(3, .int (nI (i + 5))), (2, .ref (mb 0)), (1, .ref (xa 0)), (0, .ref b)]) S.1 S.2.1 dL_law_505 hl rfl (nI_add i 5) (by decide) rfl (fun ls hl => ?_)
      refine lv_goto (tgt := 18) S.1 S.2.1 dL_law_508 (by decide) ?_
      exact ih (i + 5) H locs ls ⟨lv_sub hl [0, 1, 2, 3] rfl, ⟨on, bk, rl, fi, se, _, th, le, sn, hPX, hPM, XI_drop hI⟩, hS, h5⟩ (by omega)
    · refine lv_tableIn (off := 216) (tgt := 248) S.1 S.2.1 dL_law_32 (by decide) (by decide) (by decide) (by decide) ?_
      refine lv_aload_n S.1 S.2.1 dL_law_248 rfl (lv_at hl 2 rfl) ?_
      refine jX_count S hKX hPX hapX  hI hS hAX hl.1 dL_law_249 (fun H locs th le hPX hk hS => ?_)
      have hPM := keepM hPM hk hdX
      refine lv_aload_n S.1 S.2.1 dL_law_252 rfl (lv_at hl 1 rfl) ?_
      refine jM_count S hKM hPM  hI hl.1 dL_law_253 ?_
      refine lv_icmp_eq (tgt := 505) S.1 S.2.1 dL_law_256 (by decide) (fun _ => ?_) (fun h9 => absurd rfl h9)
      refine lv_iinc (v := nI (i + 5)) (k := 0) (lv' := [(3, .int (nI (i + 5))), (2, .ref (mb 0)), (1, .ref (xa 0)), (0, .ref b)]) S.1 S.2.1 dL_law_505 hl rfl (nI_add i 5) (by decide) rfl (fun ls hl => ?_)
      refine lv_goto (tgt := 18) S.1 S.2.1 dL_law_508 (by decide) ?_
      exact ih (i + 5) H locs ls ⟨lv_sub hl [0, 1, 2, 3] rfl, ⟨on, bk, rl, fi, se, n, th, le, sn, hPX, hPM, hI⟩, hS, h5⟩ (by omega)
    · refine lv_tableIn (off := 229) (tgt := 261) S.1 S.2.1 dL_law_32 (by decide) (by decide) (by decide) (by decide) ?_
      refine lv_aload_n S.1 S.2.1 dL_law_261 rfl (lv_at hl 2 rfl) ?_
      refine lv_aload_n S.1 S.2.1 dL_law_262 rfl (lv_at hl 3 rfl) ?_
      refine lv_iload_n S.1 S.2.1 dL_law_263 rfl (lv_at hl 0 rfl) ?_
      refine lv_iconst (v := (nI 1)) S.1 S.2.1 dL_law_264 (by decide) ?_
      refine n_iadd S dL_law_265 ?_
      refine lS S hX hbl hbA hS hL (j := i + 1) (by omega) dL_law_266 ?_
      refine jX_answer S hKX hPX hapX (p0 := xs (i + 1)) hI hS hAX hl.1 dL_law_267 (fun H locs th le hPX hk hS => ?_)
      have hPM := keepM hPM hk hdX
      refine lv_aload_n S.1 S.2.1 dL_law_270 rfl (lv_at hl 1 rfl) ?_
      refine lv_aload_n S.1 S.2.1 dL_law_271 rfl (lv_at hl 3 rfl) ?_
      refine lv_iload_n S.1 S.2.1 dL_law_272 rfl (lv_at hl 0 rfl) ?_
      refine lv_iconst (v := (nI 1)) S.1 S.2.1 dL_law_273 (by decide) ?_
      refine n_iadd S dL_law_274 ?_
      refine lS S hX hbl hbA hS hL (j := i + 1) (by omega) dL_law_275 ?_
      refine jM_answer S hKM hPM (p0 := xs (i + 1)) hI hl.1 dL_law_276 ?_
      refine lv_icmp_eq (tgt := 505) S.1 S.2.1 dL_law_279 (by decide) (fun _ => ?_) (fun h9 => absurd rfl h9)
      refine lv_iinc (v := nI (i + 5)) (k := 0) (lv' := [(3, .int (nI (i + 5))), (2, .ref (mb 0)), (1, .ref (xa 0)), (0, .ref b)]) S.1 S.2.1 dL_law_505 hl rfl (nI_add i 5) (by decide) rfl (fun ls hl => ?_)
      refine lv_goto (tgt := 18) S.1 S.2.1 dL_law_508 (by decide) ?_
      exact ih (i + 5) H locs ls ⟨lv_sub hl [0, 1, 2, 3] rfl, ⟨on, bk, rl, fi, se, n, th, le, sn, hPX, hPM, hI⟩, hS, h5⟩ (by omega)
    · refine lv_tableIn (off := 252) (tgt := 284) S.1 S.2.1 dL_law_32 (by decide) (by decide) (by decide) (by decide) ?_
      refine lv_aload_n S.1 S.2.1 dL_law_284 rfl (lv_at hl 2 rfl) ?_
      refine lv_aload_n S.1 S.2.1 dL_law_285 rfl (lv_at hl 3 rfl) ?_
      refine lv_iload_n S.1 S.2.1 dL_law_286 rfl (lv_at hl 0 rfl) ?_
      refine lv_iconst (v := (nI 1)) S.1 S.2.1 dL_law_287 (by decide) ?_
      refine n_iadd S dL_law_288 ?_
      refine lS S hX hbl hbA hS hL (j := i + 1) (by omega) dL_law_289 ?_
      refine jX_seek S hKX hPX hapX (p0 := xs (i + 1)) hI hS hAX hl.1 dL_law_290 (fun H locs th le hPX hk hS => ?_)
      have hPM := keepM hPM hk hdX
      refine lv_aload_n S.1 S.2.1 dL_law_293 rfl (lv_at hl 1 rfl) ?_
      refine lv_aload_n S.1 S.2.1 dL_law_294 rfl (lv_at hl 3 rfl) ?_
      refine lv_iload_n S.1 S.2.1 dL_law_295 rfl (lv_at hl 0 rfl) ?_
      refine lv_iconst (v := (nI 1)) S.1 S.2.1 dL_law_296 (by decide) ?_
      refine n_iadd S dL_law_297 ?_
      refine lS S hX hbl hbA hS hL (j := i + 1) (by omega) dL_law_298 ?_
      refine jM_seek S hKM hPM (p0 := xs (i + 1)) hI hl.1 dL_law_299 ?_
      refine lv_icmp_eq (tgt := 505) S.1 S.2.1 dL_law_302 (by decide) (fun _ => ?_) (fun h9 => absurd rfl h9)
      refine lv_iinc (v := nI (i + 5)) (k := 0) (lv' := [(3, .int (nI (i + 5))), (2, .ref (mb 0)), (1, .ref (xa 0)), (0, .ref b)]) S.1 S.2.1 dL_law_505 hl rfl (nI_add i 5) (by decide) rfl (fun ls hl => ?_)
      refine lv_goto (tgt := 18) S.1 S.2.1 dL_law_508 (by decide) ?_
      exact ih (i + 5) H locs ls ⟨lv_sub hl [0, 1, 2, 3] rfl, ⟨on, bk, rl, fi, se, n, th, le, sn, hPX, hPM, hI⟩, hS, h5⟩ (by omega)
    · refine lv_tableIn (off := 275) (tgt := 307) S.1 S.2.1 dL_law_32 (by decide) (by decide) (by decide) (by decide) ?_
      refine lv_aload_n S.1 S.2.1 dL_law_307 rfl (lv_at hl 2 rfl) ?_
      refine lv_aload_n S.1 S.2.1 dL_law_308 rfl (lv_at hl 3 rfl) ?_
      refine lv_iload_n S.1 S.2.1 dL_law_309 rfl (lv_at hl 0 rfl) ?_
      refine lv_iconst (v := (nI 1)) S.1 S.2.1 dL_law_310 (by decide) ?_
      refine n_iadd S dL_law_311 ?_
      refine lS S hX hbl hbA hS hL (j := i + 1) (by omega) dL_law_312 ?_
      refine jX_values S hKX hPX hapX (p0 := xs (i + 1)) hI hS hAX hl.1 dL_law_313 (fun H locs th le hPX hk hS => ?_)
      have hPM := keepM hPM hk hdX
      refine lv_aload_n S.1 S.2.1 dL_law_316 rfl (lv_at hl 1 rfl) ?_
      refine lv_aload_n S.1 S.2.1 dL_law_317 rfl (lv_at hl 3 rfl) ?_
      refine lv_iload_n S.1 S.2.1 dL_law_318 rfl (lv_at hl 0 rfl) ?_
      refine lv_iconst (v := (nI 1)) S.1 S.2.1 dL_law_319 (by decide) ?_
      refine n_iadd S dL_law_320 ?_
      refine lS S hX hbl hbA hS hL (j := i + 1) (by omega) dL_law_321 ?_
      refine jM_values S hKM hPM (p0 := xs (i + 1)) hI hl.1 dL_law_322 ?_
      refine lv_icmp_eq (tgt := 505) S.1 S.2.1 dL_law_325 (by decide) (fun _ => ?_) (fun h9 => absurd rfl h9)
      refine lv_iinc (v := nI (i + 5)) (k := 0) (lv' := [(3, .int (nI (i + 5))), (2, .ref (mb 0)), (1, .ref (xa 0)), (0, .ref b)]) S.1 S.2.1 dL_law_505 hl rfl (nI_add i 5) (by decide) rfl (fun ls hl => ?_)
      refine lv_goto (tgt := 18) S.1 S.2.1 dL_law_508 (by decide) ?_
      exact ih (i + 5) H locs ls ⟨lv_sub hl [0, 1, 2, 3] rfl, ⟨on, bk, rl, fi, se, n, th, le, sn, hPX, hPM, hI⟩, hS, h5⟩ (by omega)
    · refine lv_tableIn (off := 298) (tgt := 330) S.1 S.2.1 dL_law_32 (by decide) (by decide) (by decide) (by decide) ?_
      refine lv_aload_n S.1 S.2.1 dL_law_330 rfl (lv_at hl 2 rfl) ?_
      refine lv_aload_n S.1 S.2.1 dL_law_331 rfl (lv_at hl 3 rfl) ?_
      refine lv_iload_n S.1 S.2.1 dL_law_332 rfl (lv_at hl 0 rfl) ?_
      refine lv_iconst (v := (nI 1)) S.1 S.2.1 dL_law_333 (by decide) ?_
      refine n_iadd S dL_law_334 ?_
      refine lS S hX hbl hbA hS hL (j := i + 1) (by omega) dL_law_335 ?_
      refine lv_aload_n S.1 S.2.1 dL_law_336 rfl (lv_at hl 3 rfl) ?_
      refine lv_iload_n S.1 S.2.1 dL_law_337 rfl (lv_at hl 0 rfl) ?_
      refine lv_iconst (v := (nI 2)) S.1 S.2.1 dL_law_338 (by decide) ?_
      refine n_iadd S dL_law_339 ?_
      refine lS S hX hbl hbA hS hL (j := i + 2) (by omega) dL_law_340 ?_
      refine jX_countWith S hKX hPX hapX (p0 := xs (i + 1)) (p1 := xs (i + 2)) hI hS hAX hl.1 dL_law_341 (fun H locs th le hPX hk hS => ?_)
      have hPM := keepM hPM hk hdX
      refine lv_aload_n S.1 S.2.1 dL_law_344 rfl (lv_at hl 1 rfl) ?_
      refine lv_aload_n S.1 S.2.1 dL_law_345 rfl (lv_at hl 3 rfl) ?_
      refine lv_iload_n S.1 S.2.1 dL_law_346 rfl (lv_at hl 0 rfl) ?_
      refine lv_iconst (v := (nI 1)) S.1 S.2.1 dL_law_347 (by decide) ?_
      refine n_iadd S dL_law_348 ?_
      refine lS S hX hbl hbA hS hL (j := i + 1) (by omega) dL_law_349 ?_
      refine lv_aload_n S.1 S.2.1 dL_law_350 rfl (lv_at hl 3 rfl) ?_
      refine lv_iload_n S.1 S.2.1 dL_law_351 rfl (lv_at hl 0 rfl) ?_
      refine lv_iconst (v := (nI 2)) S.1 S.2.1 dL_law_352 (by decide) ?_
      refine n_iadd S dL_law_353 ?_
      refine lS S hX hbl hbA hS hL (j := i + 2) (by omega) dL_law_354 ?_
      refine jM_countWith S hKM hPM (p0 := xs (i + 1)) (p1 := xs (i + 2)) hI hl.1 dL_law_355 ?_
      refine lv_icmp_eq (tgt := 505) S.1 S.2.1 dL_law_358 (by decide) (fun _ => ?_) (fun h9 => absurd rfl h9)
      refine lv_iinc (v := nI (i + 5)) (k := 0) (lv' := [(3, .int (nI (i + 5))), (2, .ref (mb 0)), (1, .ref (xa 0)), (0, .ref b)]) S.1 S.2.1 dL_law_505 hl rfl (nI_add i 5) (by decide) rfl (fun ls hl => ?_)
      refine lv_goto (tgt := 18) S.1 S.2.1 dL_law_508 (by decide) ?_
      exact ih (i + 5) H locs ls ⟨lv_sub hl [0, 1, 2, 3] rfl, ⟨on, bk, rl, fi, se, n, th, le, sn, hPX, hPM, hI⟩, hS, h5⟩ (by omega)
    · refine lv_tableIn (off := 331) (tgt := 363) S.1 S.2.1 dL_law_32 (by decide) (by decide) (by decide) (by decide) ?_
      refine lv_aload_n S.1 S.2.1 dL_law_363 rfl (lv_at hl 2 rfl) ?_
      refine lv_aload_n S.1 S.2.1 dL_law_364 rfl (lv_at hl 3 rfl) ?_
      refine lv_iload_n S.1 S.2.1 dL_law_365 rfl (lv_at hl 0 rfl) ?_
      refine lv_iconst (v := (nI 1)) S.1 S.2.1 dL_law_366 (by decide) ?_
      refine n_iadd S dL_law_367 ?_
      refine lS S hX hbl hbA hS hL (j := i + 1) (by omega) dL_law_368 ?_
      refine jX_holds S hKX hPX hapX (p0 := xs (i + 1)) hI hS hAX hl.1 dL_law_369 (fun H locs th le hPX hk hS => ?_)
      have hPM := keepM hPM hk hdX
      refine lv_aload_n S.1 S.2.1 dL_law_372 rfl (lv_at hl 1 rfl) ?_
      refine lv_aload_n S.1 S.2.1 dL_law_373 rfl (lv_at hl 3 rfl) ?_
      refine lv_iload_n S.1 S.2.1 dL_law_374 rfl (lv_at hl 0 rfl) ?_
      refine lv_iconst (v := (nI 1)) S.1 S.2.1 dL_law_375 (by decide) ?_
      refine n_iadd S dL_law_376 ?_
      refine lS S hX hbl hbA hS hL (j := i + 1) (by omega) dL_law_377 ?_
      refine jM_holds S hKM hPM (p0 := xs (i + 1)) hI hl.1 dL_law_378 ?_
      refine lv_icmp_eq (tgt := 505) S.1 S.2.1 dL_law_381 (by decide) (fun _ => ?_) (fun h9 => absurd rfl h9)
      refine lv_iinc (v := nI (i + 5)) (k := 0) (lv' := [(3, .int (nI (i + 5))), (2, .ref (mb 0)), (1, .ref (xa 0)), (0, .ref b)]) S.1 S.2.1 dL_law_505 hl rfl (nI_add i 5) (by decide) rfl (fun ls hl => ?_)
      refine lv_goto (tgt := 18) S.1 S.2.1 dL_law_508 (by decide) ?_
      exact ih (i + 5) H locs ls ⟨lv_sub hl [0, 1, 2, 3] rfl, ⟨on, bk, rl, fi, se, n, th, le, sn, hPX, hPM, hI⟩, hS, h5⟩ (by omega)
    · refine lv_tableIn (off := 354) (tgt := 386) S.1 S.2.1 dL_law_32 (by decide) (by decide) (by decide) (by decide) ?_
      refine lv_aload_n S.1 S.2.1 dL_law_386 rfl (lv_at hl 2 rfl) ?_
      refine lv_aload_n S.1 S.2.1 dL_law_387 rfl (lv_at hl 3 rfl) ?_
      refine lv_iload_n S.1 S.2.1 dL_law_388 rfl (lv_at hl 0 rfl) ?_
      refine lv_iconst (v := (nI 1)) S.1 S.2.1 dL_law_389 (by decide) ?_
      refine n_iadd S dL_law_390 ?_
      refine lS S hX hbl hbA hS hL (j := i + 1) (by omega) dL_law_391 ?_
      refine lv_aload_n S.1 S.2.1 dL_law_392 rfl (lv_at hl 3 rfl) ?_
      refine lv_iload_n S.1 S.2.1 dL_law_393 rfl (lv_at hl 0 rfl) ?_
      refine lv_iconst (v := (nI 2)) S.1 S.2.1 dL_law_394 (by decide) ?_
      refine n_iadd S dL_law_395 ?_
      refine lS S hX hbl hbA hS hL (j := i + 2) (by omega) dL_law_396 ?_
      refine jX_pairs S hKX hPX hapX (p0 := xs (i + 1)) (p1 := xs (i + 2)) hI hS hAX hl.1 dL_law_397 (fun H locs th le hPX hk hS => ?_)
      have hPM := keepM hPM hk hdX
      refine lv_aload_n S.1 S.2.1 dL_law_400 rfl (lv_at hl 1 rfl) ?_
      refine lv_aload_n S.1 S.2.1 dL_law_401 rfl (lv_at hl 3 rfl) ?_
      refine lv_iload_n S.1 S.2.1 dL_law_402 rfl (lv_at hl 0 rfl) ?_
      refine lv_iconst (v := (nI 1)) S.1 S.2.1 dL_law_403 (by decide) ?_
      refine n_iadd S dL_law_404 ?_
      refine lS S hX hbl hbA hS hL (j := i + 1) (by omega) dL_law_405 ?_
      refine lv_aload_n S.1 S.2.1 dL_law_406 rfl (lv_at hl 3 rfl) ?_
      refine lv_iload_n S.1 S.2.1 dL_law_407 rfl (lv_at hl 0 rfl) ?_
      refine lv_iconst (v := (nI 2)) S.1 S.2.1 dL_law_408 (by decide) ?_
      refine n_iadd S dL_law_409 ?_
      refine lS S hX hbl hbA hS hL (j := i + 2) (by omega) dL_law_410 ?_
      refine jM_pairs S hKM hPM hapM (p0 := xs (i + 1)) (p1 := xs (i + 2)) hI hS hAM hl.1 dL_law_411 (fun H locs sn hPM hk hS => ?_)
      have hPX := keepX hPX hk hdM
      refine lv_icmp_eq (tgt := 505) S.1 S.2.1 dL_law_414 (by decide) (fun _ => ?_) (fun h9 => absurd rfl h9)
      refine lv_iinc (v := nI (i + 5)) (k := 0) (lv' := [(3, .int (nI (i + 5))), (2, .ref (mb 0)), (1, .ref (xa 0)), (0, .ref b)]) S.1 S.2.1 dL_law_505 hl rfl (nI_add i 5) (by decide) rfl (fun ls hl => ?_)
      refine lv_goto (tgt := 18) S.1 S.2.1 dL_law_508 (by decide) ?_
      exact ih (i + 5) H locs ls ⟨lv_sub hl [0, 1, 2, 3] rfl, ⟨on, bk, rl, fi, se, n, th, le, sn, hPX, hPM, hI⟩, hS, h5⟩ (by omega)
    · refine lv_tableIn (off := 387) (tgt := 419) S.1 S.2.1 dL_law_32 (by decide) (by decide) (by decide) (by decide) ?_
      refine lv_aload_n S.1 S.2.1 dL_law_419 rfl (lv_at hl 2 rfl) ?_
      refine lv_aload_n S.1 S.2.1 dL_law_420 rfl (lv_at hl 3 rfl) ?_
      refine lv_iload_n S.1 S.2.1 dL_law_421 rfl (lv_at hl 0 rfl) ?_
      refine lv_iconst (v := (nI 1)) S.1 S.2.1 dL_law_422 (by decide) ?_
      refine n_iadd S dL_law_423 ?_
      refine lS S hX hbl hbA hS hL (j := i + 1) (by omega) dL_law_424 ?_
      refine lv_aload_n S.1 S.2.1 dL_law_425 rfl (lv_at hl 3 rfl) ?_
      refine lv_iload_n S.1 S.2.1 dL_law_426 rfl (lv_at hl 0 rfl) ?_
      refine lv_iconst (v := (nI 2)) S.1 S.2.1 dL_law_427 (by decide) ?_
      refine n_iadd S dL_law_428 ?_
      refine lS S hX hbl hbA hS hL (j := i + 2) (by omega) dL_law_429 ?_
      refine lv_aload_n S.1 S.2.1 dL_law_430 rfl (lv_at hl 3 rfl) ?_
      refine lv_iload_n S.1 S.2.1 dL_law_431 rfl (lv_at hl 0 rfl) ?_
      refine lv_iconst (v := (nI 3)) S.1 S.2.1 dL_law_432 (by decide) ?_
      refine n_iadd S dL_law_433 ?_
      refine lS S hX hbl hbA hS hL (j := i + 3) (by omega) dL_law_434 ?_
      refine jX_loss S hKX hPX hapX (p0 := xs (i + 1)) (p1 := xs (i + 2)) (p2 := xs (i + 3)) hI hS hAX hl.1 dL_law_435 (fun H locs th le hPX hk hS => ?_)
      have hPM := keepM hPM hk hdX
      refine lv_aload_n S.1 S.2.1 dL_law_438 rfl (lv_at hl 1 rfl) ?_
      refine lv_aload_n S.1 S.2.1 dL_law_439 rfl (lv_at hl 3 rfl) ?_
      refine lv_iload_n S.1 S.2.1 dL_law_440 rfl (lv_at hl 0 rfl) ?_
      refine lv_iconst (v := (nI 1)) S.1 S.2.1 dL_law_441 (by decide) ?_
      refine n_iadd S dL_law_442 ?_
      refine lS S hX hbl hbA hS hL (j := i + 1) (by omega) dL_law_443 ?_
      refine lv_aload_n S.1 S.2.1 dL_law_444 rfl (lv_at hl 3 rfl) ?_
      refine lv_iload_n S.1 S.2.1 dL_law_445 rfl (lv_at hl 0 rfl) ?_
      refine lv_iconst (v := (nI 2)) S.1 S.2.1 dL_law_446 (by decide) ?_
      refine n_iadd S dL_law_447 ?_
      refine lS S hX hbl hbA hS hL (j := i + 2) (by omega) dL_law_448 ?_
      refine lv_aload_n S.1 S.2.1 dL_law_449 rfl (lv_at hl 3 rfl) ?_
      refine lv_iload_n S.1 S.2.1 dL_law_450 rfl (lv_at hl 0 rfl) ?_
      refine lv_iconst (v := (nI 3)) S.1 S.2.1 dL_law_451 (by decide) ?_
      refine n_iadd S dL_law_452 ?_
      refine lS S hX hbl hbA hS hL (j := i + 3) (by omega) dL_law_453 ?_
      refine jM_loss S hKM hPM hapM (p0 := xs (i + 1)) (p1 := xs (i + 2)) (p2 := xs (i + 3)) hI hS hAM hl.1 dL_law_454 (fun H locs sn hPM hk hS => ?_)
      have hPX := keepX hPX hk hdM
      refine lv_icmp_eq (tgt := 505) S.1 S.2.1 dL_law_457 (by decide) (fun _ => ?_) (fun h9 => absurd rfl h9)
      refine lv_iinc (v := nI (i + 5)) (k := 0) (lv' := [(3, .int (nI (i + 5))), (2, .ref (mb 0)), (1, .ref (xa 0)), (0, .ref b)]) S.1 S.2.1 dL_law_505 hl rfl (nI_add i 5) (by decide) rfl (fun ls hl => ?_)
      refine lv_goto (tgt := 18) S.1 S.2.1 dL_law_508 (by decide) ?_
      exact ih (i + 5) H locs ls ⟨lv_sub hl [0, 1, 2, 3] rfl, ⟨on, bk, rl, fi, se, n, th, le, sn, hPX, hPM, hI⟩, hS, h5⟩ (by omega)
    · refine lv_tableIn (off := 430) (tgt := 462) S.1 S.2.1 dL_law_32 (by decide) (by decide) (by decide) (by decide) ?_
      refine lv_aload_n S.1 S.2.1 dL_law_462 rfl (lv_at hl 2 rfl) ?_
      refine lv_aload_n S.1 S.2.1 dL_law_463 rfl (lv_at hl 3 rfl) ?_
      refine lv_iload_n S.1 S.2.1 dL_law_464 rfl (lv_at hl 0 rfl) ?_
      refine lv_iconst (v := (nI 1)) S.1 S.2.1 dL_law_465 (by decide) ?_
      refine n_iadd S dL_law_466 ?_
      refine lS S hX hbl hbA hS hL (j := i + 1) (by omega) dL_law_467 ?_
      refine lv_aload_n S.1 S.2.1 dL_law_468 rfl (lv_at hl 3 rfl) ?_
      refine lv_iload_n S.1 S.2.1 dL_law_469 rfl (lv_at hl 0 rfl) ?_
      refine lv_iconst (v := (nI 2)) S.1 S.2.1 dL_law_470 (by decide) ?_
      refine n_iadd S dL_law_471 ?_
      refine lS S hX hbl hbA hS hL (j := i + 2) (by omega) dL_law_472 ?_
      refine lv_aload_n S.1 S.2.1 dL_law_473 rfl (lv_at hl 3 rfl) ?_
      refine lv_iload_n S.1 S.2.1 dL_law_474 rfl (lv_at hl 0 rfl) ?_
      refine lv_iconst (v := (nI 3)) S.1 S.2.1 dL_law_475 (by decide) ?_
      refine n_iadd S dL_law_476 ?_
      refine lS S hX hbl hbA hS hL (j := i + 3) (by omega) dL_law_477 ?_
      refine jX_partners S hKX hPX (p0 := xs (i + 1)) (p1 := xs (i + 2)) (p2 := xs (i + 3)) hl.1 dL_law_478 ?_
      refine lv_aload_n S.1 S.2.1 dL_law_481 rfl (lv_at hl 1 rfl) ?_
      refine lv_aload_n S.1 S.2.1 dL_law_482 rfl (lv_at hl 3 rfl) ?_
      refine lv_iload_n S.1 S.2.1 dL_law_483 rfl (lv_at hl 0 rfl) ?_
      refine lv_iconst (v := (nI 1)) S.1 S.2.1 dL_law_484 (by decide) ?_
      refine n_iadd S dL_law_485 ?_
      refine lS S hX hbl hbA hS hL (j := i + 1) (by omega) dL_law_486 ?_
      refine lv_aload_n S.1 S.2.1 dL_law_487 rfl (lv_at hl 3 rfl) ?_
      refine lv_iload_n S.1 S.2.1 dL_law_488 rfl (lv_at hl 0 rfl) ?_
      refine lv_iconst (v := (nI 2)) S.1 S.2.1 dL_law_489 (by decide) ?_
      refine n_iadd S dL_law_490 ?_
      refine lS S hX hbl hbA hS hL (j := i + 2) (by omega) dL_law_491 ?_
      refine lv_aload_n S.1 S.2.1 dL_law_492 rfl (lv_at hl 3 rfl) ?_
      refine lv_iload_n S.1 S.2.1 dL_law_493 rfl (lv_at hl 0 rfl) ?_
      refine lv_iconst (v := (nI 3)) S.1 S.2.1 dL_law_494 (by decide) ?_
      refine n_iadd S dL_law_495 ?_
      refine lS S hX hbl hbA hS hL (j := i + 3) (by omega) dL_law_496 ?_
      refine jM_partners S hKM hPM (p0 := xs (i + 1)) (p1 := xs (i + 2)) (p2 := xs (i + 3)) hI hl.1 dL_law_497 ?_
      refine lv_icmp_eq (tgt := 505) S.1 S.2.1 dL_law_500 (by decide) (fun _ => ?_) (fun h9 => absurd rfl h9)
      refine lv_iinc (v := nI (i + 5)) (k := 0) (lv' := [(3, .int (nI (i + 5))), (2, .ref (mb 0)), (1, .ref (xa 0)), (0, .ref b)]) S.1 S.2.1 dL_law_505 hl rfl (nI_add i 5) (by decide) rfl (fun ls hl => ?_)
      refine lv_goto (tgt := 18) S.1 S.2.1 dL_law_508 (by decide) ?_
      exact ih (i + 5) H locs ls ⟨lv_sub hl [0, 1, 2, 3] rfl, ⟨on, bk, rl, fi, se, n, th, le, sn, hPX, hPM, hI⟩, hS, h5⟩ (by omega)
    · refine lv_tableOut (tgt := 505) S.1 S.2.1 dL_law_32 (Or.inr (by rw [nI_toInt (by omega)]; omega)) (by decide) ?_
      refine lv_iinc (v := nI (i + 5)) (k := 0) (lv' := [(3, .int (nI (i + 5))), (2, .ref (mb 0)), (1, .ref (xa 0)), (0, .ref b)]) S.1 S.2.1 dL_law_505 hl rfl (nI_add i 5) (by decide) rfl (fun ls hl => ?_)
      refine lv_goto (tgt := 18) S.1 S.2.1 dL_law_508 (by decide) ?_
      exact ih (i + 5) H locs ls ⟨lv_sub hl [0, 1, 2, 3] rfl, ⟨on, bk, rl, fi, se, n, th, le, sn, hPX, hPM, hI⟩, hS, h5⟩ (by omega)
end
section
set_option maxRecDepth 100000
set_option maxHeartbeats 4000000 in
theorem lw_walk (l : Launch) (b : Addr) (xs : List Int32) : MetFree l x (headSpec (Jvm.Cond.code x code maxLocals ret :: tables_1) room_1) (lw_P b xs) (fun _ _ _ _ _ => True) lw_Q := by
  refine MetFree.of_bodyS (code := code) (maxLocals := maxLocals) (ret := ret) (by decide) ?_ ?_
  · intro args s m h hn
    obtain ⟨meth, c, h1, h2, h3, h4, h5, h6, -, -⟩ := Cond.code_spec hn (atoms_spec (ws := Jvm.Cond.code x code maxLocals ret :: tables_1) h _ List.mem_cons_self)
    exact ⟨meth, c, h1, h2, h3, h4, h5, h6⟩
  · intro p e s m args below meth c s₁ B hml0 hP _
    obtain ⟨rfl, hx, hbd, hgv⟩ := hP
    obtain ⟨scr, harrAt, hlist, hof, hsmall⟩ := hx
    obtain ⟨hcb, hkn, -, -⟩ := State.arrayAt?_spec harrAt
    have hown : s.vm.findClass R_law = some m.cls := findClass_of_methodNamed B.named
    have hts0 : ∀ c ∈ (Jvm.Cond.code x code maxLocals ret :: tables_1), c.before #[Value.ref b] s = true := atoms_spec (ws := Jvm.Cond.code x code maxLocals ret :: tables_1) B.pre
    have hts : ∀ w ∈ lw_tbl, w.before #[Value.ref b] s = true := k2_hts_sels lw_privs (fun w hw => hts0 w (List.mem_cons_of_mem _ hw)) lw_privs_ok
    have hml : c.maxLocals = 4 := B.maxLocals_eq (hts0 _ List.mem_cons_self)
    have X₀ : Stand p l e room_1 s m #[Value.ref b] below meth c s₁ [] 0 0 := Stand.of_body B
    have hh0 : s₁.heap = s.heap := by rw [B.state]; rfl
    have hsz : scr.slots.size = xs.length := by rw [← Array.length_toList, hlist, List.length_map]
    have hval : ∀ j : Nat, j < xs.length → scr.slots[j]? = some (.int (xs.getD j 0)) := fun j hj => by
      rw [← Array.getElem?_toList, hlist]
      simp [hj]
    have hbl : b < s.heap.size := (Array.getElem?_eq_some_iff.mp hcb).1
    have hX : va_X b xs.length (fun j => xs.getD j 0) s s.heap := ⟨scr, hcb, hof, hkn, hsz, hval⟩
    have K : W p l e room_1 s m #[Value.ref b] below meth c s₁.heap [] 0 0 (lw_Z below #[Value.ref b] s) (entryFrame m ([Value.ref b] : List Value).toArray 4) := by
      rw [hh0]
      exact whole_start l hbd ⟨B.exec, B.bytes, B.returns, hml, hown, hts, hX, hbl, B.notSynchronized, hgv⟩
    obtain ⟨t, a1, o, b1, b2, b3⟩ := K s₁ rfl X₀
    exact ⟨t, o, a1, b1, b2, b3⟩
theorem lw_pre_spec {args : Array Value} {s : State} (h : (Jvm.Cond.and given_1 narrow_1).before args s = true) (hr : rest_1_c.before args s = true) : ∃ (b : Addr) (xs : List Int32), lw_P b xs args s := by
  have hs := flat_of_before _ h
  have hq := flat_of_before _ hr
  have hc : (Cond.count 1).before args s = true := hs _ (by decide +kernel)
  have harr : (Cond.arrayOf (.arg 0) .int).before args s = true := hs _ (by decide +kernel)
  have hle : (Cond.le (.length (.arg 0)) (.int 320)).before args s = true := hs _ (by decide +kernel)
  have hlen : (Cond.isInt (.length (.arg 0))).before args s = true := hq _ (by decide +kernel)
  have hall : (Cond.all (.arg 0) (.isInt (.elem (.arg 0) (.index 0)))).before args s = true := hq _ (by decide +kernel)
  obtain ⟨b, xs, hb, hx⟩ := State.ints_of_pre rfl harr hlen hall
  have hsm : xs.length < 2 ^ 31 := hx.choose_spec.2.2.2
  have hev : (Term.length (.arg 0)).eval args s none [] s = some (.int xs.length.toInt32) := hx.length_eval hb
  have hv := Cond.le_ints hev (show (Term.int 320).eval args s none [] s = some (.int 320) from rfl)
  have hd : xs.length.toInt32 ≤ 320 := by
    simpa [Cond.before, Cond.holds, hv] using hle
  have hN : xs.length ≤ 320 := (Int32.ofNat_le_ofNat hsm (by decide)).mp (show Int32.ofNat xs.length ≤ Int32.ofNat 320 from hd)
  exact ⟨b, xs, Cond.one_arg hc (show args[0]? = some (.ref b) from hb), hx, hN, h⟩
theorem lw_comes (l : Launch) : Comes l x (Jvm.Cond.code x code maxLocals ret :: tables_1) room_1 (fun tb e args s => Calls_1 tb e args s ∧ rest_1 tb e args s ∧ Pre_1 tb e args s)
    (fun _ _ args s o t => lw_Q args s o t) := by
  intro p e ha hc hk s m args below hf hfit hheap happ hpre
  obtain ⟨b, xs, hP⟩ := lw_pre_spec hpre.2.2 hpre.2.1
  obtain ⟨k, o, h1, h2, h3, hQ⟩ := lw_walk l b xs p e ha hc hk s m args below hf ((Spec.applies_iff_loose hf).mp happ).1 hP trivial
  exact ⟨k, o, h1, h2, h3, hQ⟩
theorem lw_frame {s t : State} {o : Outcome} {args : Array Value} (h : Framed s o t [] 600000 7290000) :
    Framed s o t (fieldLocs frame_1_writes args s ++ arrayLocs frame_1_arrays args s ++ staticLocs frame_1_statics s) 600000 7290000 := h
theorem lw_limb (L : Cond) (hL : ∀ (args : Array Value) (s t : State), L.after args s (.returned (some (.int 1))) t = true) :
    ArmFor flags0 classFile x code maxLocals ret World_1 tables_1 room_1 Calls_1 rest_1 Pre_1
      (fun tb e a s o t => postC L tb e a s o t ∧ Framed s o t (fieldLocs frame_1_writes a s ++ arrayLocs frame_1_arrays a s ++ staticLocs frame_1_statics s) 600000 7290000) := by
  intro l _ _ _ p e ha hc hk s m args below hf hfit hheap happ hpre
  obtain ⟨k, o, h1, h2, h3, rfl, hF⟩ := lw_comes l p e ha hc hk s m args below hf hfit hheap happ hpre
  exact ⟨k, _, h1, h2, h3, hL args s _, lw_frame hF⟩
theorem i_vc : Claimed_1_1 ∧ Claimed_1_2 := ⟨lw_limb limb_1_1 (fun args s t => by simp [limb_1_1, Cond.after, Cond.holds, Cond.value]), lw_limb limb_1_2 (fun args s t => Cond.after_iff.mpr (by
  first | (rw [show limb_1_2 = Cond.eq .result (.int 1) from rfl, Cond.eq_ints (x := 1) (y := 1) rfl rfl]; simp; done) | (simp [limb_1_2, Cond.value, Term.eval]; done)))⟩
end
