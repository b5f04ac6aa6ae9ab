section
-- ===== PART A: goes FIRST, ahead of the names: the tables' words, and 'selects' of the private methods out of them =====
/-- a private method of a class that the tables say can be made, by its rows of tables_1 -/
def lw_okq (q : MethodName × Nat) : Prop := (q.1.cls ≠ "java/lang/invoke/MethodHandle" ∧ q.1.cls ≠ "java/lang/invoke/VarHandle") ∧ Cond.instantiable q.1.cls q.2 ∈ tables_1 ∧ Cond.privateMethod q.1 ∈ tables_1 ∧ Cond.instanceMethod q.1 ∈ tables_1
set_option maxRecDepth 100000
theorem lw_t1 {w : Cond} (h : w ∈ tables_1_1) : w ∈ tables_1 := List.mem_append_left _ h
theorem lw_t2 {w : Cond} (h : w ∈ tables_1_2) : w ∈ tables_1 := List.mem_append_right _ h
theorem lw_p0 : lw_okq (⟨"ArcCache", "request", "(I)V"⟩, 12) := ⟨⟨by decide +kernel, by decide +kernel⟩, lw_t1 (List.mem_of_getElem? (i := 4) rfl), lw_t1 (List.mem_of_getElem? (i := 63) rfl), lw_t1 (List.mem_of_getElem? (i := 64) rfl)⟩
theorem lw_p1 : lw_okq (⟨"ArcCache", "move", "(II)V"⟩, 12) := ⟨⟨by decide +kernel, by decide +kernel⟩, lw_t1 (List.mem_of_getElem? (i := 4) rfl), lw_t1 (List.mem_of_getElem? (i := 67) rfl), lw_t1 (List.mem_of_getElem? (i := 68) rfl)⟩
theorem lw_p2 : lw_okq (⟨"ArcCache", "unlink", "(I)V"⟩, 12) := ⟨⟨by decide +kernel, by decide +kernel⟩, lw_t1 (List.mem_of_getElem? (i := 4) rfl), lw_t1 (List.mem_of_getElem? (i := 71) rfl), lw_t1 (List.mem_of_getElem? (i := 72) rfl)⟩
theorem lw_p3 : lw_okq (⟨"ArcCache", "makeRoom", "(I)V"⟩, 12) := ⟨⟨by decide +kernel, by decide +kernel⟩, lw_t1 (List.mem_of_getElem? (i := 4) rfl), lw_t1 (List.mem_of_getElem? (i := 78) rfl), lw_t1 (List.mem_of_getElem? (i := 79) rfl)⟩
theorem lw_p4 : lw_okq (⟨"ArcCache", "old", "(I)I"⟩, 12) := ⟨⟨by decide +kernel, by decide +kernel⟩, lw_t1 (List.mem_of_getElem? (i := 4) rfl), lw_t1 (List.mem_of_getElem? (i := 82) rfl), lw_t1 (List.mem_of_getElem? (i := 83) rfl)⟩
theorem lw_p5 : lw_okq (⟨"ArcCache", "go", "(I)V"⟩, 12) := ⟨⟨by decide +kernel, by decide +kernel⟩, lw_t1 (List.mem_of_getElem? (i := 4) rfl), lw_t1 (List.mem_of_getElem? (i := 86) rfl), lw_t1 (List.mem_of_getElem? (i := 87) rfl)⟩
theorem lw_p6 : lw_okq (⟨"ArcCache", "fresh", "(I)V"⟩, 12) := ⟨⟨by decide +kernel, by decide +kernel⟩, lw_t1 (List.mem_of_getElem? (i := 4) rfl), lw_t1 (List.mem_of_getElem? (i := 90) rfl), lw_t1 (List.mem_of_getElem? (i := 91) rfl)⟩
theorem lw_p7 : lw_okq (⟨"ArcCacheModel", "request", "(I)V"⟩, 10) := ⟨⟨by decide +kernel, by decide +kernel⟩, lw_t1 (List.mem_of_getElem? (i := 141) rfl), lw_t1 (List.mem_of_getElem? (i := 193) rfl), lw_t1 (List.mem_of_getElem? (i := 194) rfl)⟩
theorem lw_p8 : lw_okq (⟨"ArcCacheModel", "come", "(II)V"⟩, 10) := ⟨⟨by decide +kernel, by decide +kernel⟩, lw_t1 (List.mem_of_getElem? (i := 141) rfl), lw_t1 (List.mem_of_getElem? (i := 198) rfl), lw_t1 (List.mem_of_getElem? (i := 199) rfl)⟩
theorem lw_p9 : lw_okq (⟨"ArcCacheModel", "leave", "(I)V"⟩, 10) := ⟨⟨by decide +kernel, by decide +kernel⟩, lw_t1 (List.mem_of_getElem? (i := 141) rfl), lw_t1 (List.mem_of_getElem? (i := 202) rfl), lw_t1 (List.mem_of_getElem? (i := 203) rfl)⟩
theorem lw_p10 : lw_okq (⟨"ArcCacheModel", "comeNew", "(I)V"⟩, 10) := ⟨⟨by decide +kernel, by decide +kernel⟩, lw_t1 (List.mem_of_getElem? (i := 141) rfl), lw_t1 (List.mem_of_getElem? (i := 206) rfl), lw_t1 (List.mem_of_getElem? (i := 207) rfl)⟩
theorem lw_p11 : lw_okq (⟨"ArcCacheModel", "old", "(I)I"⟩, 10) := ⟨⟨by decide +kernel, by decide +kernel⟩, lw_t1 (List.mem_of_getElem? (i := 141) rfl), lw_t1 (List.mem_of_getElem? (i := 210) rfl), lw_t1 (List.mem_of_getElem? (i := 211) rfl)⟩
theorem lw_p12 : lw_okq (⟨"ArcCacheModel", "makeRoom", "(I)V"⟩, 10) := ⟨⟨by decide +kernel, by decide +kernel⟩, lw_t1 (List.mem_of_getElem? (i := 141) rfl), lw_t1 (List.mem_of_getElem? (i := 214) rfl), lw_t1 (List.mem_of_getElem? (i := 215) rfl)⟩
theorem lw_p13 : lw_okq (⟨"ArcCacheModel", "go", "(I)V"⟩, 10) := ⟨⟨by decide +kernel, by decide +kernel⟩, lw_t1 (List.mem_of_getElem? (i := 141) rfl), lw_t1 (List.mem_of_getElem? (i := 218) rfl), lw_t1 (List.mem_of_getElem? (i := 219) rfl)⟩
theorem lw_p14 : lw_okq (⟨"ArcCacheModel", "clean", "(I)V"⟩, 10) := ⟨⟨by decide +kernel, by decide +kernel⟩, lw_t1 (List.mem_of_getElem? (i := 141) rfl), lw_t1 (List.mem_of_getElem? (i := 222) rfl), lw_t1 (List.mem_of_getElem? (i := 223) rfl)⟩
def lw_privs_1 : List (MethodName × Nat) := [(⟨"ArcCache", "request", "(I)V"⟩, 12), (⟨"ArcCache", "move", "(II)V"⟩, 12), (⟨"ArcCache", "unlink", "(I)V"⟩, 12), (⟨"ArcCache", "makeRoom", "(I)V"⟩, 12), (⟨"ArcCache", "old", "(I)I"⟩, 12), (⟨"ArcCache", "go", "(I)V"⟩, 12), (⟨"ArcCache", "fresh", "(I)V"⟩, 12), (⟨"ArcCacheModel", "request", "(I)V"⟩, 10), (⟨"ArcCacheModel", "come", "(II)V"⟩, 10), (⟨"ArcCacheModel", "leave", "(I)V"⟩, 10), (⟨"ArcCacheModel", "comeNew", "(I)V"⟩, 10), (⟨"ArcCacheModel", "old", "(I)I"⟩, 10), (⟨"ArcCacheModel", "makeRoom", "(I)V"⟩, 10), (⟨"ArcCacheModel", "go", "(I)V"⟩, 10), (⟨"ArcCacheModel", "clean", "(I)V"⟩, 10)]
theorem lw_r1 : ∀ q ∈ lw_privs_1, lw_okq q := List.forall_mem_cons.mpr ⟨lw_p0, List.forall_mem_cons.mpr ⟨lw_p1, List.forall_mem_cons.mpr ⟨lw_p2, List.forall_mem_cons.mpr ⟨lw_p3, List.forall_mem_cons.mpr ⟨lw_p4, List.forall_mem_cons.mpr ⟨lw_p5, List.forall_mem_cons.mpr ⟨lw_p6, List.forall_mem_cons.mpr ⟨lw_p7, List.forall_mem_cons.mpr ⟨lw_p8, List.forall_mem_cons.mpr ⟨lw_p9, List.forall_mem_cons.mpr ⟨lw_p10, List.forall_mem_cons.mpr ⟨lw_p11, List.forall_mem_cons.mpr ⟨lw_p12, List.forall_mem_cons.mpr ⟨lw_p13, List.forall_mem_cons.mpr ⟨lw_p14, fun _ h => absurd h List.not_mem_nil⟩⟩⟩⟩⟩⟩⟩⟩⟩⟩⟩⟩⟩⟩⟩
def lw_privs : List (MethodName × Nat) := lw_privs_1
def lw_tbl : List Cond := k2_sels lw_privs ++ tables_1
theorem lw_privs_ok : ∀ q ∈ lw_privs, lw_okq q := lw_r1
-- ===== ONE list of words for every method: the tables' words that hold all through a run =====
def lw_all : List Cond := lw_tbl.filter goodWord
/-- a word of the tables by its place: claim/WORDS.tsv -/
theorem lw_w {w : Cond} (i : Nat) (h : lw_tbl[i]? = some w) (g : goodWord w = true) : w ∈ lw_all := List.mem_filter.mpr ⟨List.mem_of_getElem? h, g⟩
theorem lw_all_tbl {w : Cond} (h : w ∈ lw_all) : w ∈ lw_tbl := (List.mem_filter.mp h).1
theorem lw_self : GoodIn lw_all lw_all := fun w h => ⟨h, good_of_word (List.mem_filter.mp h).2⟩
/-- a class's field words, by their places -/
theorem lw_in (ws : List Cond) (ps : List Nat) (hp : ws = ps.filterMap (fun i => lw_tbl[i]?)) (hg : ws.all goodWord = true) : ∀ w ∈ ws, w ∈ lw_all := by
  intro w h
  have h1 := List.all_eq_true.mp hg w h
  rw [hp] at h
  obtain ⟨i, -, hi⟩ := List.mem_filterMap.mp h
  exact lw_w i hi h1
/-- the words of a contract for the method y with code b, L locals, answer r -/
abbrev ws_ (y : MethodName) (b : ByteArray) (L : Nat) (r : Option FieldType) : List Cond := Cond.code y b L r :: lw_all
theorem lw_meth {y : MethodName} {b : ByteArray} {L : Nat} {r : Option FieldType} (h : Cond.code y b L r ∈ lw_all) : GoodIn lw_all (ws_ y b L r) := by
  intro w hw
  rcases List.mem_cons.mp hw with e | e
  · rw [e]
    exact lw_self _ h
  · exact lw_self _ e
theorem lw_app {a c : List Cond} (ha : ∀ w ∈ a, w ∈ lw_all) (hc : GoodIn lw_all c) : GoodIn lw_all (a ++ c) := by
  intro w hw
  rcases List.mem_append.mp hw with e | e
  · exact lw_self w (ha w e)
  · exact hc w e
/-- what a call through an object asks: cwV n hts (lw_V ..) -/
theorem lw_V {own : String} {idx : Nat} {C : String} {y : MethodName} {b : ByteArray} {L : Nat} {r : Option FieldType} (h1 : Cond.methodLink own idx y ∈ lw_all) (h2 : Cond.instanceMethod y ∈ lw_all) (h3 : Cond.selects C y y ∈ lw_all) (h4 : Cond.initialized C ∈ lw_all) (h5 : Cond.code y b L r ∈ lw_all) : GoodIn lw_all (wsV own idx C y (ws_ y b L r)) := by
  refine lw_app ?_ (lw_meth h5)
  intro w hw
  simp only [List.mem_cons, List.not_mem_nil, or_false] at hw
  rcases hw with e | e | e | e
  · rw [e]; exact h1
  · rw [e]; exact h2
  · rw [e]; exact h3
  · rw [e]; exact h4
/-- what a static call asks: va_cwS n hts (lw_S ..) -/
theorem lw_S {own : String} {idx : Nat} {y : MethodName} {b : ByteArray} {L : Nat} {r : Option FieldType} (h1 : Cond.methodLink own idx y ∈ lw_all) (h2 : Cond.static y ∈ lw_all) (h3 : Cond.initialized y.cls ∈ lw_all) (h4 : Cond.code y b L r ∈ lw_all) : GoodIn lw_all (va_wsS own idx y (ws_ y b L r)) := by
  refine lw_app ?_ (lw_meth h4)
  intro w hw
  simp only [List.mem_cons, List.not_mem_nil, or_false] at hw
  rcases hw with e | e | e
  · rw [e]; exact h1
  · rw [e]; exact h2
  · rw [e]; exact h3
/-- the words of a contract for a method WITH HANDLERS (hh: its table) -/
abbrev wsW_ (y : MethodName) (b : ByteArray) (L : Nat) (r : Option FieldType) (hh : List (Nat × Nat × Nat × Nat)) : List Cond := Cond.codeWith y b L r hh :: lw_all
theorem lw_methW {y : MethodName} {b : ByteArray} {L : Nat} {r : Option FieldType} {hh : List (Nat × Nat × Nat × Nat)} (h : Cond.codeWith y b L r hh ∈ lw_all) : GoodIn lw_all (wsW_ y b L r hh) := by
  intro w hw
  rcases List.mem_cons.mp hw with e | e
  · rw [e]
    exact lw_self _ h
  · exact lw_self _ e
/-- any list of words by their places (lw_in), good -/
theorem lw_good {ws : List Cond} (h : ∀ w ∈ ws, w ∈ lw_all) : GoodIn lw_all ws := fun w hw => lw_self w (h w hw)
/-- what a call of a method with handlers asks: vx_cwVW n hts (lw_VW ..), vx_cwSW n hts (lw_SW ..) -/
theorem lw_VW {own : String} {idx : Nat} {C : String} {y : MethodName} {b : ByteArray} {L : Nat} {r : Option FieldType} {hh : List (Nat × Nat × Nat × Nat)} (h1 : Cond.methodLink own idx y ∈ lw_all) (h2 : Cond.instanceMethod y ∈ lw_all) (h3 : Cond.selects C y y ∈ lw_all) (h4 : Cond.initialized C ∈ lw_all) (h5 : Cond.codeWith y b L r hh ∈ lw_all) : GoodIn lw_all (wsV own idx C y (wsW_ y b L r hh)) := by
  refine lw_app ?_ (lw_methW h5)
  intro w hw
  simp only [List.mem_cons, List.not_mem_nil, or_false] at hw
  rcases hw with e | e | e | e
  · rw [e]; exact h1
  · rw [e]; exact h2
  · rw [e]; exact h3
  · rw [e]; exact h4
theorem lw_SW {own : String} {idx : Nat} {y : MethodName} {b : ByteArray} {L : Nat} {r : Option FieldType} {hh : List (Nat × Nat × Nat × Nat)} (h1 : Cond.methodLink own idx y ∈ lw_all) (h2 : Cond.static y ∈ lw_all) (h3 : Cond.initialized y.cls ∈ lw_all) (h4 : Cond.codeWith y b L r hh ∈ lw_all) : GoodIn lw_all (va_wsS own idx y (wsW_ y b L r hh)) := by
  refine lw_app ?_ (lw_methW h4)
  intro w hw
  simp only [List.mem_cons, List.not_mem_nil, or_false] at hw
  rcases hw with e | e | e
  · rw [e]; exact h1
  · rw [e]; exact h2
  · rw [e]; exact h3
/-- a word by its place in its run of the tables -/
theorem lw_at {r : List Cond} (hr : ∀ w ∈ r, w ∈ lw_tbl) {w : Cond} (i : Nat) (h : r[i]? = some w) : w ∈ lw_tbl := hr w (List.mem_of_getElem? h)
theorem lw_g {w : Cond} (h : w ∈ lw_tbl) (g : goodWord w = true) : w ∈ lw_all := List.mem_filter.mpr ⟨h, g⟩
theorem lw_ms : ∀ w ∈ k2_sels lw_privs, w ∈ lw_tbl := fun w h => show w ∈ k2_sels lw_privs ++ tables_1 from List.mem_append_left _ h
theorem lw_m1 : ∀ w ∈ tables_1_1, w ∈ lw_tbl := fun w h => show w ∈ k2_sels lw_privs ++ tables_1 from List.mem_append_right (k2_sels lw_privs) (show w ∈ tables_1 from List.mem_append_left _ h)
theorem lw_m2 : ∀ w ∈ tables_1_2, w ∈ lw_tbl := fun w h => show w ∈ k2_sels lw_privs ++ tables_1 from List.mem_append_right (k2_sels lw_privs) (show w ∈ tables_1 from List.mem_append_right _ h)
theorem qs0 : (Cond.selects "ArcCache" ⟨"ArcCache", "request", "(I)V"⟩ ⟨"ArcCache", "request", "(I)V"⟩) ∈ lw_all := lw_g (lw_at lw_ms 0 rfl) rfl
theorem qs1 : (Cond.selects "ArcCache" ⟨"ArcCache", "move", "(II)V"⟩ ⟨"ArcCache", "move", "(II)V"⟩) ∈ lw_all := lw_g (lw_at lw_ms 1 rfl) rfl
theorem qs2 : (Cond.selects "ArcCache" ⟨"ArcCache", "unlink", "(I)V"⟩ ⟨"ArcCache", "unlink", "(I)V"⟩) ∈ lw_all := lw_g (lw_at lw_ms 2 rfl) rfl
theorem qs3 : (Cond.selects "ArcCache" ⟨"ArcCache", "makeRoom", "(I)V"⟩ ⟨"ArcCache", "makeRoom", "(I)V"⟩) ∈ lw_all := lw_g (lw_at lw_ms 3 rfl) rfl
theorem qs4 : (Cond.selects "ArcCache" ⟨"ArcCache", "old", "(I)I"⟩ ⟨"ArcCache", "old", "(I)I"⟩) ∈ lw_all := lw_g (lw_at lw_ms 4 rfl) rfl
theorem qs5 : (Cond.selects "ArcCache" ⟨"ArcCache", "go", "(I)V"⟩ ⟨"ArcCache", "go", "(I)V"⟩) ∈ lw_all := lw_g (lw_at lw_ms 5 rfl) rfl
theorem qs6 : (Cond.selects "ArcCache" ⟨"ArcCache", "fresh", "(I)V"⟩ ⟨"ArcCache", "fresh", "(I)V"⟩) ∈ lw_all := lw_g (lw_at lw_ms 6 rfl) rfl
theorem qs7 : (Cond.selects "ArcCacheModel" ⟨"ArcCacheModel", "request", "(I)V"⟩ ⟨"ArcCacheModel", "request", "(I)V"⟩) ∈ lw_all := lw_g (lw_at lw_ms 7 rfl) rfl
theorem qs8 : (Cond.selects "ArcCacheModel" ⟨"ArcCacheModel", "come", "(II)V"⟩ ⟨"ArcCacheModel", "come", "(II)V"⟩) ∈ lw_all := lw_g (lw_at lw_ms 8 rfl) rfl
theorem qs9 : (Cond.selects "ArcCacheModel" ⟨"ArcCacheModel", "leave", "(I)V"⟩ ⟨"ArcCacheModel", "leave", "(I)V"⟩) ∈ lw_all := lw_g (lw_at lw_ms 9 rfl) rfl
theorem qs10 : (Cond.selects "ArcCacheModel" ⟨"ArcCacheModel", "comeNew", "(I)V"⟩ ⟨"ArcCacheModel", "comeNew", "(I)V"⟩) ∈ lw_all := lw_g (lw_at lw_ms 10 rfl) rfl
theorem qs11 : (Cond.selects "ArcCacheModel" ⟨"ArcCacheModel", "old", "(I)I"⟩ ⟨"ArcCacheModel", "old", "(I)I"⟩) ∈ lw_all := lw_g (lw_at lw_ms 11 rfl) rfl
theorem qs12 : (Cond.selects "ArcCacheModel" ⟨"ArcCacheModel", "makeRoom", "(I)V"⟩ ⟨"ArcCacheModel", "makeRoom", "(I)V"⟩) ∈ lw_all := lw_g (lw_at lw_ms 12 rfl) rfl
theorem qs13 : (Cond.selects "ArcCacheModel" ⟨"ArcCacheModel", "go", "(I)V"⟩ ⟨"ArcCacheModel", "go", "(I)V"⟩) ∈ lw_all := lw_g (lw_at lw_ms 13 rfl) rfl
theorem qs14 : (Cond.selects "ArcCacheModel" ⟨"ArcCacheModel", "clean", "(I)V"⟩ ⟨"ArcCacheModel", "clean", "(I)V"⟩) ∈ lw_all := lw_g (lw_at lw_ms 14 rfl) rfl
end
section
/-! ArcCache -/
set_option maxRecDepth 100000
def RX1 : String := "ArcCache"
def TX1 : u_T := fun k => match k with
  | 0 => ("ArcCache", "next", "[I", true)
  | 1 => ("ArcCache", "prev", "[I", true)
  | 2 => ("ArcCache", "listOf", "[I", true)
  | 3 => ("ArcCache", "lengths", "[I", true)
  | 4 => ("ArcCache", "words", "[I", true)
  | 5 => ("ArcCache", "dirty", "[Z", true)
  | 6 => ("ArcCache", "backing", "[I", true)
  | 7 => ("ArcCache", "c", "I", true)
  | 8 => ("ArcCache", "target", "I", false)
  | 9 => ("ArcCache", "hits", "I", false)
  | 10 => ("ArcCache", "misses", "I", false)
  | _ => ("ArcCache", "gone", "I", false)
def tyX1 : Nat → FieldType := fun k => match k with
  | 0 => .array .int
  | 1 => .array .int
  | 2 => .array .int
  | 3 => .array .int
  | 4 => .array .int
  | 5 => .array .boolean
  | 6 => .array .int
  | 7 => .int
  | 8 => .int
  | 9 => .int
  | 10 => .int
  | _ => .int
abbrev wsX10 : List Cond := u_ws RX1 TX1 12
theorem nmX1 : ∀ a, a < 12 → ∀ b, b < 12 → a ≠ b → (TX1 a).2.1 ≠ (TX1 b).2.1 := by decide +kernel
theorem tyX1_ok : ∀ k, k < 12 → parseFieldDescriptor (TX1 k).2.2.1 = some (tyX1 k) := by decide +kernel
abbrev cX1_init : ByteArray := prog_1_method_1_code
def yX1_init : MethodName := ⟨RX1, "<init>", "(I)V"⟩
theorem dX1_init_0 : decode cX1_init 0 = .ok (.aload_n 0, 1) := by decide +kernel
theorem dX1_init_1 : decode cX1_init 1 = .ok (.invokespecial 1, 3) := by decide +kernel
theorem dX1_init_4 : decode cX1_init 4 = .ok (.aload_n 0, 1) := by decide +kernel
theorem dX1_init_5 : decode cX1_init 5 = .ok (.bipush 69, 2) := by decide +kernel
theorem dX1_init_7 : decode cX1_init 7 = .ok (.newarray .int, 2) := by decide +kernel
theorem dX1_init_9 : decode cX1_init 9 = .ok (.putfield 7, 3) := by decide +kernel
theorem dX1_init_12 : decode cX1_init 12 = .ok (.aload_n 0, 1) := by decide +kernel
theorem dX1_init_13 : decode cX1_init 13 = .ok (.bipush 69, 2) := by decide +kernel
theorem dX1_init_15 : decode cX1_init 15 = .ok (.newarray .int, 2) := by decide +kernel
theorem dX1_init_17 : decode cX1_init 17 = .ok (.putfield 13, 3) := by decide +kernel
theorem dX1_init_20 : decode cX1_init 20 = .ok (.aload_n 0, 1) := by decide +kernel
theorem dX1_init_21 : decode cX1_init 21 = .ok (.bipush 64, 2) := by decide +kernel
theorem dX1_init_23 : decode cX1_init 23 = .ok (.newarray .int, 2) := by decide +kernel
theorem dX1_init_25 : decode cX1_init 25 = .ok (.putfield 16, 3) := by decide +kernel
theorem dX1_init_28 : decode cX1_init 28 = .ok (.aload_n 0, 1) := by decide +kernel
theorem dX1_init_29 : decode cX1_init 29 = .ok (.iconst 5, 1) := by decide +kernel
theorem dX1_init_30 : decode cX1_init 30 = .ok (.newarray .int, 2) := by decide +kernel
theorem dX1_init_32 : decode cX1_init 32 = .ok (.putfield 19, 3) := by decide +kernel
theorem dX1_init_35 : decode cX1_init 35 = .ok (.aload_n 0, 1) := by decide +kernel
theorem dX1_init_36 : decode cX1_init 36 = .ok (.bipush 64, 2) := by decide +kernel
theorem dX1_init_38 : decode cX1_init 38 = .ok (.newarray .int, 2) := by decide +kernel
theorem dX1_init_40 : decode cX1_init 40 = .ok (.putfield 22, 3) := by decide +kernel
theorem dX1_init_43 : decode cX1_init 43 = .ok (.aload_n 0, 1) := by decide +kernel
theorem dX1_init_44 : decode cX1_init 44 = .ok (.bipush 64, 2) := by decide +kernel
theorem dX1_init_46 : decode cX1_init 46 = .ok (.newarray .boolean, 2) := by decide +kernel
theorem dX1_init_48 : decode cX1_init 48 = .ok (.putfield 25, 3) := by decide +kernel
theorem dX1_init_51 : decode cX1_init 51 = .ok (.aload_n 0, 1) := by decide +kernel
theorem dX1_init_52 : decode cX1_init 52 = .ok (.bipush 64, 2) := by decide +kernel
theorem dX1_init_54 : decode cX1_init 54 = .ok (.newarray .int, 2) := by decide +kernel
theorem dX1_init_56 : decode cX1_init 56 = .ok (.putfield 29, 3) := by decide +kernel
theorem dX1_init_59 : decode cX1_init 59 = .ok (.iload_n 1, 1) := by decide +kernel
theorem dX1_init_60 : decode cX1_init 60 = .ok (.bipush 24, 2) := by decide +kernel
theorem dX1_init_62 : decode cX1_init 62 = .ok (.irem, 1) := by decide +kernel
theorem dX1_init_63 : decode cX1_init 63 = .ok (.istore_n 2, 1) := by decide +kernel
theorem dX1_init_64 : decode cX1_init 64 = .ok (.aload_n 0, 1) := by decide +kernel
theorem dX1_init_65 : decode cX1_init 65 = .ok (.iconst 1, 1) := by decide +kernel
theorem dX1_init_66 : decode cX1_init 66 = .ok (.iload_n 2, 1) := by decide +kernel
theorem dX1_init_67 : decode cX1_init 67 = .ok (.ifCond .ge 10, 3) := by decide +kernel
theorem dX1_init_70 : decode cX1_init 70 = .ok (.iload_n 2, 1) := by decide +kernel
theorem dX1_init_71 : decode cX1_init 71 = .ok (.bipush 24, 2) := by decide +kernel
theorem dX1_init_73 : decode cX1_init 73 = .ok (.iadd, 1) := by decide +kernel
theorem dX1_init_74 : decode cX1_init 74 = .ok (.goto 4, 3) := by decide +kernel
theorem dX1_init_77 : decode cX1_init 77 = .ok (.iload_n 2, 1) := by decide +kernel
theorem dX1_init_78 : decode cX1_init 78 = .ok (.iadd, 1) := by decide +kernel
theorem dX1_init_79 : decode cX1_init 79 = .ok (.putfield 32, 3) := by decide +kernel
theorem dX1_init_82 : decode cX1_init 82 = .ok (.aload_n 0, 1) := by decide +kernel
theorem dX1_init_83 : decode cX1_init 83 = .ok (.invokevirtual 36, 3) := by decide +kernel
theorem dX1_init_86 : decode cX1_init 86 = .ok (.return_, 1) := by decide +kernel
abbrev cX1_init_2 : ByteArray := prog_1_method_2_code
def yX1_init_2 : MethodName := ⟨RX1, "init", "()V"⟩
theorem dX1_init_2_0 : decode cX1_init_2 0 = .ok (.iconst 0, 1) := by decide +kernel
theorem dX1_init_2_1 : decode cX1_init_2 1 = .ok (.istore_n 1, 1) := by decide +kernel
theorem dX1_init_2_2 : decode cX1_init_2 2 = .ok (.iload_n 1, 1) := by decide +kernel
theorem dX1_init_2_3 : decode cX1_init_2 3 = .ok (.iconst 5, 1) := by decide +kernel
theorem dX1_init_2_4 : decode cX1_init_2 4 = .ok (.if_icmp .ge 42, 3) := by decide +kernel
theorem dX1_init_2_7 : decode cX1_init_2 7 = .ok (.aload_n 0, 1) := by decide +kernel
theorem dX1_init_2_8 : decode cX1_init_2 8 = .ok (.getfield 7, 3) := by decide +kernel
theorem dX1_init_2_11 : decode cX1_init_2 11 = .ok (.bipush 64, 2) := by decide +kernel
theorem dX1_init_2_13 : decode cX1_init_2 13 = .ok (.iload_n 1, 1) := by decide +kernel
theorem dX1_init_2_14 : decode cX1_init_2 14 = .ok (.iadd, 1) := by decide +kernel
theorem dX1_init_2_15 : decode cX1_init_2 15 = .ok (.bipush 64, 2) := by decide +kernel
theorem dX1_init_2_17 : decode cX1_init_2 17 = .ok (.iload_n 1, 1) := by decide +kernel
theorem dX1_init_2_18 : decode cX1_init_2 18 = .ok (.iadd, 1) := by decide +kernel
theorem dX1_init_2_19 : decode cX1_init_2 19 = .ok (.iastore, 1) := by decide +kernel
theorem dX1_init_2_20 : decode cX1_init_2 20 = .ok (.aload_n 0, 1) := by decide +kernel
theorem dX1_init_2_21 : decode cX1_init_2 21 = .ok (.getfield 13, 3) := by decide +kernel
theorem dX1_init_2_24 : decode cX1_init_2 24 = .ok (.bipush 64, 2) := by decide +kernel
theorem dX1_init_2_26 : decode cX1_init_2 26 = .ok (.iload_n 1, 1) := by decide +kernel
theorem dX1_init_2_27 : decode cX1_init_2 27 = .ok (.iadd, 1) := by decide +kernel
theorem dX1_init_2_28 : decode cX1_init_2 28 = .ok (.bipush 64, 2) := by decide +kernel
theorem dX1_init_2_30 : decode cX1_init_2 30 = .ok (.iload_n 1, 1) := by decide +kernel
theorem dX1_init_2_31 : decode cX1_init_2 31 = .ok (.iadd, 1) := by decide +kernel
theorem dX1_init_2_32 : decode cX1_init_2 32 = .ok (.iastore, 1) := by decide +kernel
theorem dX1_init_2_33 : decode cX1_init_2 33 = .ok (.aload_n 0, 1) := by decide +kernel
theorem dX1_init_2_34 : decode cX1_init_2 34 = .ok (.getfield 19, 3) := by decide +kernel
theorem dX1_init_2_37 : decode cX1_init_2 37 = .ok (.iload_n 1, 1) := by decide +kernel
theorem dX1_init_2_38 : decode cX1_init_2 38 = .ok (.iconst 0, 1) := by decide +kernel
theorem dX1_init_2_39 : decode cX1_init_2 39 = .ok (.iastore, 1) := by decide +kernel
theorem dX1_init_2_40 : decode cX1_init_2 40 = .ok (.iinc 1 1, 3) := by decide +kernel
theorem dX1_init_2_43 : decode cX1_init_2 43 = .ok (.goto (-41), 3) := by decide +kernel
theorem dX1_init_2_46 : decode cX1_init_2 46 = .ok (.iconst 0, 1) := by decide +kernel
theorem dX1_init_2_47 : decode cX1_init_2 47 = .ok (.istore_n 1, 1) := by decide +kernel
theorem dX1_init_2_48 : decode cX1_init_2 48 = .ok (.iload_n 1, 1) := by decide +kernel
theorem dX1_init_2_49 : decode cX1_init_2 49 = .ok (.bipush 64, 2) := by decide +kernel
theorem dX1_init_2_51 : decode cX1_init_2 51 = .ok (.if_icmp .ge 37, 3) := by decide +kernel
theorem dX1_init_2_54 : decode cX1_init_2 54 = .ok (.aload_n 0, 1) := by decide +kernel
theorem dX1_init_2_55 : decode cX1_init_2 55 = .ok (.getfield 16, 3) := by decide +kernel
theorem dX1_init_2_58 : decode cX1_init_2 58 = .ok (.iload_n 1, 1) := by decide +kernel
theorem dX1_init_2_59 : decode cX1_init_2 59 = .ok (.iconst 0, 1) := by decide +kernel
theorem dX1_init_2_60 : decode cX1_init_2 60 = .ok (.iastore, 1) := by decide +kernel
theorem dX1_init_2_61 : decode cX1_init_2 61 = .ok (.aload_n 0, 1) := by decide +kernel
theorem dX1_init_2_62 : decode cX1_init_2 62 = .ok (.getfield 22, 3) := by decide +kernel
theorem dX1_init_2_65 : decode cX1_init_2 65 = .ok (.iload_n 1, 1) := by decide +kernel
theorem dX1_init_2_66 : decode cX1_init_2 66 = .ok (.iconst 0, 1) := by decide +kernel
theorem dX1_init_2_67 : decode cX1_init_2 67 = .ok (.iastore, 1) := by decide +kernel
theorem dX1_init_2_68 : decode cX1_init_2 68 = .ok (.aload_n 0, 1) := by decide +kernel
theorem dX1_init_2_69 : decode cX1_init_2 69 = .ok (.getfield 25, 3) := by decide +kernel
theorem dX1_init_2_72 : decode cX1_init_2 72 = .ok (.iload_n 1, 1) := by decide +kernel
theorem dX1_init_2_73 : decode cX1_init_2 73 = .ok (.iconst 0, 1) := by decide +kernel
theorem dX1_init_2_74 : decode cX1_init_2 74 = .ok (.bastore, 1) := by decide +kernel
theorem dX1_init_2_75 : decode cX1_init_2 75 = .ok (.aload_n 0, 1) := by decide +kernel
theorem dX1_init_2_76 : decode cX1_init_2 76 = .ok (.getfield 29, 3) := by decide +kernel
theorem dX1_init_2_79 : decode cX1_init_2 79 = .ok (.iload_n 1, 1) := by decide +kernel
theorem dX1_init_2_80 : decode cX1_init_2 80 = .ok (.iconst 0, 1) := by decide +kernel
theorem dX1_init_2_81 : decode cX1_init_2 81 = .ok (.iastore, 1) := by decide +kernel
theorem dX1_init_2_82 : decode cX1_init_2 82 = .ok (.iinc 1 1, 3) := by decide +kernel
theorem dX1_init_2_85 : decode cX1_init_2 85 = .ok (.goto (-37), 3) := by decide +kernel
theorem dX1_init_2_88 : decode cX1_init_2 88 = .ok (.aload_n 0, 1) := by decide +kernel
theorem dX1_init_2_89 : decode cX1_init_2 89 = .ok (.iconst 0, 1) := by decide +kernel
theorem dX1_init_2_90 : decode cX1_init_2 90 = .ok (.putfield 39, 3) := by decide +kernel
theorem dX1_init_2_93 : decode cX1_init_2 93 = .ok (.aload_n 0, 1) := by decide +kernel
theorem dX1_init_2_94 : decode cX1_init_2 94 = .ok (.iconst 0, 1) := by decide +kernel
theorem dX1_init_2_95 : decode cX1_init_2 95 = .ok (.putfield 42, 3) := by decide +kernel
theorem dX1_init_2_98 : decode cX1_init_2 98 = .ok (.aload_n 0, 1) := by decide +kernel
theorem dX1_init_2_99 : decode cX1_init_2 99 = .ok (.iconst 0, 1) := by decide +kernel
theorem dX1_init_2_100 : decode cX1_init_2 100 = .ok (.putfield 45, 3) := by decide +kernel
theorem dX1_init_2_103 : decode cX1_init_2 103 = .ok (.aload_n 0, 1) := by decide +kernel
theorem dX1_init_2_104 : decode cX1_init_2 104 = .ok (.iconst 0, 1) := by decide +kernel
theorem dX1_init_2_105 : decode cX1_init_2 105 = .ok (.putfield 48, 3) := by decide +kernel
theorem dX1_init_2_108 : decode cX1_init_2 108 = .ok (.return_, 1) := by decide +kernel
abbrev cX1_read : ByteArray := prog_1_method_12_code
def yX1_read : MethodName := ⟨RX1, "read", "(I)I"⟩
theorem dX1_read_0 : decode cX1_read 0 = .ok (.iload_n 1, 1) := by decide +kernel
theorem dX1_read_1 : decode cX1_read 1 = .ok (.invokestatic 76, 3) := by decide +kernel
theorem dX1_read_4 : decode cX1_read 4 = .ok (.ifCond .ne 5, 3) := by decide +kernel
theorem dX1_read_7 : decode cX1_read 7 = .ok (.iconst 0, 1) := by decide +kernel
theorem dX1_read_8 : decode cX1_read 8 = .ok (.ireturn, 1) := by decide +kernel
theorem dX1_read_9 : decode cX1_read 9 = .ok (.aload_n 0, 1) := by decide +kernel
theorem dX1_read_10 : decode cX1_read 10 = .ok (.iload_n 1, 1) := by decide +kernel
theorem dX1_read_11 : decode cX1_read 11 = .ok (.invokevirtual 80, 3) := by decide +kernel
theorem dX1_read_14 : decode cX1_read 14 = .ok (.aload_n 0, 1) := by decide +kernel
theorem dX1_read_15 : decode cX1_read 15 = .ok (.getfield 22, 3) := by decide +kernel
theorem dX1_read_18 : decode cX1_read 18 = .ok (.iload_n 1, 1) := by decide +kernel
theorem dX1_read_19 : decode cX1_read 19 = .ok (.iaload, 1) := by decide +kernel
theorem dX1_read_20 : decode cX1_read 20 = .ok (.ireturn, 1) := by decide +kernel
abbrev cX1_isAddress : ByteArray := prog_1_method_3_code
def yX1_isAddress : MethodName := ⟨RX1, "isAddress", "(I)Z"⟩
theorem dX1_isAddress_0 : decode cX1_isAddress 0 = .ok (.iload_n 0, 1) := by decide +kernel
theorem dX1_isAddress_1 : decode cX1_isAddress 1 = .ok (.ifCond .lt 13, 3) := by decide +kernel
theorem dX1_isAddress_4 : decode cX1_isAddress 4 = .ok (.iload_n 0, 1) := by decide +kernel
theorem dX1_isAddress_5 : decode cX1_isAddress 5 = .ok (.bipush 64, 2) := by decide +kernel
theorem dX1_isAddress_7 : decode cX1_isAddress 7 = .ok (.if_icmp .ge 7, 3) := by decide +kernel
theorem dX1_isAddress_10 : decode cX1_isAddress 10 = .ok (.iconst 1, 1) := by decide +kernel
theorem dX1_isAddress_11 : decode cX1_isAddress 11 = .ok (.goto 4, 3) := by decide +kernel
theorem dX1_isAddress_14 : decode cX1_isAddress 14 = .ok (.iconst 0, 1) := by decide +kernel
theorem dX1_isAddress_15 : decode cX1_isAddress 15 = .ok (.ireturn, 1) := by decide +kernel
abbrev cX1_request : ByteArray := prog_1_method_10_code
def yX1_request : MethodName := ⟨RX1, "request", "(I)V"⟩
theorem dX1_request_0 : decode cX1_request 0 = .ok (.aload_n 0, 1) := by decide +kernel
theorem dX1_request_1 : decode cX1_request 1 = .ok (.getfield 16, 3) := by decide +kernel
theorem dX1_request_4 : decode cX1_request 4 = .ok (.iload_n 1, 1) := by decide +kernel
theorem dX1_request_5 : decode cX1_request 5 = .ok (.iaload, 1) := by decide +kernel
theorem dX1_request_6 : decode cX1_request 6 = .ok (.istore_n 2, 1) := by decide +kernel
theorem dX1_request_7 : decode cX1_request 7 = .ok (.iload_n 2, 1) := by decide +kernel
theorem dX1_request_8 : decode cX1_request 8 = .ok (.iconst 1, 1) := by decide +kernel
theorem dX1_request_9 : decode cX1_request 9 = .ok (.if_icmp .eq 8, 3) := by decide +kernel
theorem dX1_request_12 : decode cX1_request 12 = .ok (.iload_n 2, 1) := by decide +kernel
theorem dX1_request_13 : decode cX1_request 13 = .ok (.iconst 2, 1) := by decide +kernel
theorem dX1_request_14 : decode cX1_request 14 = .ok (.if_icmp .ne 20, 3) := by decide +kernel
theorem dX1_request_17 : decode cX1_request 17 = .ok (.aload_n 0, 1) := by decide +kernel
theorem dX1_request_18 : decode cX1_request 18 = .ok (.dup, 1) := by decide +kernel
theorem dX1_request_19 : decode cX1_request 19 = .ok (.getfield 42, 3) := by decide +kernel
theorem dX1_request_22 : decode cX1_request 22 = .ok (.iconst 1, 1) := by decide +kernel
theorem dX1_request_23 : decode cX1_request 23 = .ok (.iadd, 1) := by decide +kernel
theorem dX1_request_24 : decode cX1_request 24 = .ok (.putfield 42, 3) := by decide +kernel
theorem dX1_request_27 : decode cX1_request 27 = .ok (.aload_n 0, 1) := by decide +kernel
theorem dX1_request_28 : decode cX1_request 28 = .ok (.iload_n 1, 1) := by decide +kernel
theorem dX1_request_29 : decode cX1_request 29 = .ok (.iconst 2, 1) := by decide +kernel
theorem dX1_request_30 : decode cX1_request 30 = .ok (.invokevirtual 62, 3) := by decide +kernel
theorem dX1_request_33 : decode cX1_request 33 = .ok (.return_, 1) := by decide +kernel
theorem dX1_request_34 : decode cX1_request 34 = .ok (.aload_n 0, 1) := by decide +kernel
theorem dX1_request_35 : decode cX1_request 35 = .ok (.dup, 1) := by decide +kernel
theorem dX1_request_36 : decode cX1_request 36 = .ok (.getfield 45, 3) := by decide +kernel
theorem dX1_request_39 : decode cX1_request 39 = .ok (.iconst 1, 1) := by decide +kernel
theorem dX1_request_40 : decode cX1_request 40 = .ok (.iadd, 1) := by decide +kernel
theorem dX1_request_41 : decode cX1_request 41 = .ok (.putfield 45, 3) := by decide +kernel
theorem dX1_request_44 : decode cX1_request 44 = .ok (.iload_n 2, 1) := by decide +kernel
theorem dX1_request_45 : decode cX1_request 45 = .ok (.iconst 3, 1) := by decide +kernel
theorem dX1_request_46 : decode cX1_request 46 = .ok (.if_icmp .ne 54, 3) := by decide +kernel
theorem dX1_request_49 : decode cX1_request 49 = .ok (.aload_n 0, 1) := by decide +kernel
theorem dX1_request_50 : decode cX1_request 50 = .ok (.dup, 1) := by decide +kernel
theorem dX1_request_51 : decode cX1_request 51 = .ok (.getfield 39, 3) := by decide +kernel
theorem dX1_request_54 : decode cX1_request 54 = .ok (.aload_n 0, 1) := by decide +kernel
theorem dX1_request_55 : decode cX1_request 55 = .ok (.getfield 19, 3) := by decide +kernel
theorem dX1_request_58 : decode cX1_request 58 = .ok (.iconst 4, 1) := by decide +kernel
theorem dX1_request_59 : decode cX1_request 59 = .ok (.iaload, 1) := by decide +kernel
theorem dX1_request_60 : decode cX1_request 60 = .ok (.aload_n 0, 1) := by decide +kernel
theorem dX1_request_61 : decode cX1_request 61 = .ok (.getfield 19, 3) := by decide +kernel
theorem dX1_request_64 : decode cX1_request 64 = .ok (.iconst 3, 1) := by decide +kernel
theorem dX1_request_65 : decode cX1_request 65 = .ok (.iaload, 1) := by decide +kernel
theorem dX1_request_66 : decode cX1_request 66 = .ok (.invokestatic 66, 3) := by decide +kernel
theorem dX1_request_69 : decode cX1_request 69 = .ok (.iadd, 1) := by decide +kernel
theorem dX1_request_70 : decode cX1_request 70 = .ok (.putfield 39, 3) := by decide +kernel
theorem dX1_request_73 : decode cX1_request 73 = .ok (.aload_n 0, 1) := by decide +kernel
theorem dX1_request_74 : decode cX1_request 74 = .ok (.getfield 39, 3) := by decide +kernel
theorem dX1_request_77 : decode cX1_request 77 = .ok (.aload_n 0, 1) := by decide +kernel
theorem dX1_request_78 : decode cX1_request 78 = .ok (.getfield 32, 3) := by decide +kernel
theorem dX1_request_81 : decode cX1_request 81 = .ok (.if_icmp .le 11, 3) := by decide +kernel
theorem dX1_request_84 : decode cX1_request 84 = .ok (.aload_n 0, 1) := by decide +kernel
theorem dX1_request_85 : decode cX1_request 85 = .ok (.aload_n 0, 1) := by decide +kernel
theorem dX1_request_86 : decode cX1_request 86 = .ok (.getfield 32, 3) := by decide +kernel
theorem dX1_request_89 : decode cX1_request 89 = .ok (.putfield 39, 3) := by decide +kernel
theorem dX1_request_92 : decode cX1_request 92 = .ok (.aload_n 0, 1) := by decide +kernel
theorem dX1_request_93 : decode cX1_request 93 = .ok (.iload_n 1, 1) := by decide +kernel
theorem dX1_request_94 : decode cX1_request 94 = .ok (.invokevirtual 70, 3) := by decide +kernel
theorem dX1_request_97 : decode cX1_request 97 = .ok (.goto 57, 3) := by decide +kernel
theorem dX1_request_100 : decode cX1_request 100 = .ok (.iload_n 2, 1) := by decide +kernel
theorem dX1_request_101 : decode cX1_request 101 = .ok (.iconst 4, 1) := by decide +kernel
theorem dX1_request_102 : decode cX1_request 102 = .ok (.if_icmp .ne 47, 3) := by decide +kernel
theorem dX1_request_105 : decode cX1_request 105 = .ok (.aload_n 0, 1) := by decide +kernel
theorem dX1_request_106 : decode cX1_request 106 = .ok (.dup, 1) := by decide +kernel
theorem dX1_request_107 : decode cX1_request 107 = .ok (.getfield 39, 3) := by decide +kernel
theorem dX1_request_110 : decode cX1_request 110 = .ok (.aload_n 0, 1) := by decide +kernel
theorem dX1_request_111 : decode cX1_request 111 = .ok (.getfield 19, 3) := by decide +kernel
theorem dX1_request_114 : decode cX1_request 114 = .ok (.iconst 3, 1) := by decide +kernel
theorem dX1_request_115 : decode cX1_request 115 = .ok (.iaload, 1) := by decide +kernel
theorem dX1_request_116 : decode cX1_request 116 = .ok (.aload_n 0, 1) := by decide +kernel
theorem dX1_request_117 : decode cX1_request 117 = .ok (.getfield 19, 3) := by decide +kernel
theorem dX1_request_120 : decode cX1_request 120 = .ok (.iconst 4, 1) := by decide +kernel
theorem dX1_request_121 : decode cX1_request 121 = .ok (.iaload, 1) := by decide +kernel
theorem dX1_request_122 : decode cX1_request 122 = .ok (.invokestatic 66, 3) := by decide +kernel
theorem dX1_request_125 : decode cX1_request 125 = .ok (.isub, 1) := by decide +kernel
theorem dX1_request_126 : decode cX1_request 126 = .ok (.putfield 39, 3) := by decide +kernel
theorem dX1_request_129 : decode cX1_request 129 = .ok (.aload_n 0, 1) := by decide +kernel
theorem dX1_request_130 : decode cX1_request 130 = .ok (.getfield 39, 3) := by decide +kernel
theorem dX1_request_133 : decode cX1_request 133 = .ok (.ifCond .ge 8, 3) := by decide +kernel
theorem dX1_request_136 : decode cX1_request 136 = .ok (.aload_n 0, 1) := by decide +kernel
theorem dX1_request_137 : decode cX1_request 137 = .ok (.iconst 0, 1) := by decide +kernel
theorem dX1_request_138 : decode cX1_request 138 = .ok (.putfield 39, 3) := by decide +kernel
theorem dX1_request_141 : decode cX1_request 141 = .ok (.aload_n 0, 1) := by decide +kernel
theorem dX1_request_142 : decode cX1_request 142 = .ok (.iload_n 1, 1) := by decide +kernel
theorem dX1_request_143 : decode cX1_request 143 = .ok (.invokevirtual 70, 3) := by decide +kernel
theorem dX1_request_146 : decode cX1_request 146 = .ok (.goto 8, 3) := by decide +kernel
theorem dX1_request_149 : decode cX1_request 149 = .ok (.aload_n 0, 1) := by decide +kernel
theorem dX1_request_150 : decode cX1_request 150 = .ok (.iload_n 1, 1) := by decide +kernel
theorem dX1_request_151 : decode cX1_request 151 = .ok (.invokevirtual 73, 3) := by decide +kernel
theorem dX1_request_154 : decode cX1_request 154 = .ok (.aload_n 0, 1) := by decide +kernel
theorem dX1_request_155 : decode cX1_request 155 = .ok (.iload_n 1, 1) := by decide +kernel
theorem dX1_request_156 : decode cX1_request 156 = .ok (.iload_n 2, 1) := by decide +kernel
theorem dX1_request_157 : decode cX1_request 157 = .ok (.ifCond .ne 7, 3) := by decide +kernel
theorem dX1_request_160 : decode cX1_request 160 = .ok (.iconst 1, 1) := by decide +kernel
theorem dX1_request_161 : decode cX1_request 161 = .ok (.goto 4, 3) := by decide +kernel
theorem dX1_request_164 : decode cX1_request 164 = .ok (.iconst 2, 1) := by decide +kernel
theorem dX1_request_165 : decode cX1_request 165 = .ok (.invokevirtual 62, 3) := by decide +kernel
theorem dX1_request_168 : decode cX1_request 168 = .ok (.aload_n 0, 1) := by decide +kernel
theorem dX1_request_169 : decode cX1_request 169 = .ok (.getfield 22, 3) := by decide +kernel
theorem dX1_request_172 : decode cX1_request 172 = .ok (.iload_n 1, 1) := by decide +kernel
theorem dX1_request_173 : decode cX1_request 173 = .ok (.aload_n 0, 1) := by decide +kernel
theorem dX1_request_174 : decode cX1_request 174 = .ok (.getfield 29, 3) := by decide +kernel
theorem dX1_request_177 : decode cX1_request 177 = .ok (.iload_n 1, 1) := by decide +kernel
theorem dX1_request_178 : decode cX1_request 178 = .ok (.iaload, 1) := by decide +kernel
theorem dX1_request_179 : decode cX1_request 179 = .ok (.iastore, 1) := by decide +kernel
theorem dX1_request_180 : decode cX1_request 180 = .ok (.return_, 1) := by decide +kernel
abbrev cX1_move : ByteArray := prog_1_method_5_code
def yX1_move : MethodName := ⟨RX1, "move", "(II)V"⟩
theorem dX1_move_0 : decode cX1_move 0 = .ok (.aload_n 0, 1) := by decide +kernel
theorem dX1_move_1 : decode cX1_move 1 = .ok (.iload_n 1, 1) := by decide +kernel
theorem dX1_move_2 : decode cX1_move 2 = .ok (.invokevirtual 51, 3) := by decide +kernel
theorem dX1_move_5 : decode cX1_move 5 = .ok (.iload_n 2, 1) := by decide +kernel
theorem dX1_move_6 : decode cX1_move 6 = .ok (.ifCond .ne 4, 3) := by decide +kernel
theorem dX1_move_9 : decode cX1_move 9 = .ok (.return_, 1) := by decide +kernel
theorem dX1_move_10 : decode cX1_move 10 = .ok (.bipush 64, 2) := by decide +kernel
theorem dX1_move_12 : decode cX1_move 12 = .ok (.iload_n 2, 1) := by decide +kernel
theorem dX1_move_13 : decode cX1_move 13 = .ok (.iadd, 1) := by decide +kernel
theorem dX1_move_14 : decode cX1_move 14 = .ok (.istore_n 3, 1) := by decide +kernel
theorem dX1_move_15 : decode cX1_move 15 = .ok (.aload_n 0, 1) := by decide +kernel
theorem dX1_move_16 : decode cX1_move 16 = .ok (.getfield 7, 3) := by decide +kernel
theorem dX1_move_19 : decode cX1_move 19 = .ok (.iload_n 1, 1) := by decide +kernel
theorem dX1_move_20 : decode cX1_move 20 = .ok (.aload_n 0, 1) := by decide +kernel
theorem dX1_move_21 : decode cX1_move 21 = .ok (.getfield 7, 3) := by decide +kernel
theorem dX1_move_24 : decode cX1_move 24 = .ok (.iload_n 3, 1) := by decide +kernel
theorem dX1_move_25 : decode cX1_move 25 = .ok (.iaload, 1) := by decide +kernel
theorem dX1_move_26 : decode cX1_move 26 = .ok (.iastore, 1) := by decide +kernel
theorem dX1_move_27 : decode cX1_move 27 = .ok (.aload_n 0, 1) := by decide +kernel
theorem dX1_move_28 : decode cX1_move 28 = .ok (.getfield 13, 3) := by decide +kernel
theorem dX1_move_31 : decode cX1_move 31 = .ok (.iload_n 1, 1) := by decide +kernel
theorem dX1_move_32 : decode cX1_move 32 = .ok (.iload_n 3, 1) := by decide +kernel
theorem dX1_move_33 : decode cX1_move 33 = .ok (.iastore, 1) := by decide +kernel
theorem dX1_move_34 : decode cX1_move 34 = .ok (.aload_n 0, 1) := by decide +kernel
theorem dX1_move_35 : decode cX1_move 35 = .ok (.getfield 13, 3) := by decide +kernel
theorem dX1_move_38 : decode cX1_move 38 = .ok (.aload_n 0, 1) := by decide +kernel
theorem dX1_move_39 : decode cX1_move 39 = .ok (.getfield 7, 3) := by decide +kernel
theorem dX1_move_42 : decode cX1_move 42 = .ok (.iload_n 3, 1) := by decide +kernel
theorem dX1_move_43 : decode cX1_move 43 = .ok (.iaload, 1) := by decide +kernel
theorem dX1_move_44 : decode cX1_move 44 = .ok (.iload_n 1, 1) := by decide +kernel
theorem dX1_move_45 : decode cX1_move 45 = .ok (.iastore, 1) := by decide +kernel
theorem dX1_move_46 : decode cX1_move 46 = .ok (.aload_n 0, 1) := by decide +kernel
theorem dX1_move_47 : decode cX1_move 47 = .ok (.getfield 7, 3) := by decide +kernel
theorem dX1_move_50 : decode cX1_move 50 = .ok (.iload_n 3, 1) := by decide +kernel
theorem dX1_move_51 : decode cX1_move 51 = .ok (.iload_n 1, 1) := by decide +kernel
theorem dX1_move_52 : decode cX1_move 52 = .ok (.iastore, 1) := by decide +kernel
theorem dX1_move_53 : decode cX1_move 53 = .ok (.aload_n 0, 1) := by decide +kernel
theorem dX1_move_54 : decode cX1_move 54 = .ok (.getfield 16, 3) := by decide +kernel
theorem dX1_move_57 : decode cX1_move 57 = .ok (.iload_n 1, 1) := by decide +kernel
theorem dX1_move_58 : decode cX1_move 58 = .ok (.iload_n 2, 1) := by decide +kernel
theorem dX1_move_59 : decode cX1_move 59 = .ok (.iastore, 1) := by decide +kernel
theorem dX1_move_60 : decode cX1_move 60 = .ok (.aload_n 0, 1) := by decide +kernel
theorem dX1_move_61 : decode cX1_move 61 = .ok (.getfield 19, 3) := by decide +kernel
theorem dX1_move_64 : decode cX1_move 64 = .ok (.iload_n 2, 1) := by decide +kernel
theorem dX1_move_65 : decode cX1_move 65 = .ok (.dup2, 1) := by decide +kernel
theorem dX1_move_66 : decode cX1_move 66 = .ok (.iaload, 1) := by decide +kernel
theorem dX1_move_67 : decode cX1_move 67 = .ok (.iconst 1, 1) := by decide +kernel
theorem dX1_move_68 : decode cX1_move 68 = .ok (.iadd, 1) := by decide +kernel
theorem dX1_move_69 : decode cX1_move 69 = .ok (.iastore, 1) := by decide +kernel
theorem dX1_move_70 : decode cX1_move 70 = .ok (.return_, 1) := by decide +kernel
abbrev cX1_unlink : ByteArray := prog_1_method_4_code
def yX1_unlink : MethodName := ⟨RX1, "unlink", "(I)V"⟩
theorem dX1_unlink_0 : decode cX1_unlink 0 = .ok (.aload_n 0, 1) := by decide +kernel
theorem dX1_unlink_1 : decode cX1_unlink 1 = .ok (.getfield 16, 3) := by decide +kernel
theorem dX1_unlink_4 : decode cX1_unlink 4 = .ok (.iload_n 1, 1) := by decide +kernel
theorem dX1_unlink_5 : decode cX1_unlink 5 = .ok (.iaload, 1) := by decide +kernel
theorem dX1_unlink_6 : decode cX1_unlink 6 = .ok (.ifCond .ne 4, 3) := by decide +kernel
theorem dX1_unlink_9 : decode cX1_unlink 9 = .ok (.return_, 1) := by decide +kernel
theorem dX1_unlink_10 : decode cX1_unlink 10 = .ok (.aload_n 0, 1) := by decide +kernel
theorem dX1_unlink_11 : decode cX1_unlink 11 = .ok (.getfield 7, 3) := by decide +kernel
theorem dX1_unlink_14 : decode cX1_unlink 14 = .ok (.aload_n 0, 1) := by decide +kernel
theorem dX1_unlink_15 : decode cX1_unlink 15 = .ok (.getfield 13, 3) := by decide +kernel
theorem dX1_unlink_18 : decode cX1_unlink 18 = .ok (.iload_n 1, 1) := by decide +kernel
theorem dX1_unlink_19 : decode cX1_unlink 19 = .ok (.iaload, 1) := by decide +kernel
theorem dX1_unlink_20 : decode cX1_unlink 20 = .ok (.aload_n 0, 1) := by decide +kernel
theorem dX1_unlink_21 : decode cX1_unlink 21 = .ok (.getfield 7, 3) := by decide +kernel
theorem dX1_unlink_24 : decode cX1_unlink 24 = .ok (.iload_n 1, 1) := by decide +kernel
theorem dX1_unlink_25 : decode cX1_unlink 25 = .ok (.iaload, 1) := by decide +kernel
theorem dX1_unlink_26 : decode cX1_unlink 26 = .ok (.iastore, 1) := by decide +kernel
theorem dX1_unlink_27 : decode cX1_unlink 27 = .ok (.aload_n 0, 1) := by decide +kernel
theorem dX1_unlink_28 : decode cX1_unlink 28 = .ok (.getfield 13, 3) := by decide +kernel
theorem dX1_unlink_31 : decode cX1_unlink 31 = .ok (.aload_n 0, 1) := by decide +kernel
theorem dX1_unlink_32 : decode cX1_unlink 32 = .ok (.getfield 7, 3) := by decide +kernel
theorem dX1_unlink_35 : decode cX1_unlink 35 = .ok (.iload_n 1, 1) := by decide +kernel
theorem dX1_unlink_36 : decode cX1_unlink 36 = .ok (.iaload, 1) := by decide +kernel
theorem dX1_unlink_37 : decode cX1_unlink 37 = .ok (.aload_n 0, 1) := by decide +kernel
theorem dX1_unlink_38 : decode cX1_unlink 38 = .ok (.getfield 13, 3) := by decide +kernel
theorem dX1_unlink_41 : decode cX1_unlink 41 = .ok (.iload_n 1, 1) := by decide +kernel
theorem dX1_unlink_42 : decode cX1_unlink 42 = .ok (.iaload, 1) := by decide +kernel
theorem dX1_unlink_43 : decode cX1_unlink 43 = .ok (.iastore, 1) := by decide +kernel
theorem dX1_unlink_44 : decode cX1_unlink 44 = .ok (.aload_n 0, 1) := by decide +kernel
theorem dX1_unlink_45 : decode cX1_unlink 45 = .ok (.getfield 19, 3) := by decide +kernel
theorem dX1_unlink_48 : decode cX1_unlink 48 = .ok (.aload_n 0, 1) := by decide +kernel
theorem dX1_unlink_49 : decode cX1_unlink 49 = .ok (.getfield 16, 3) := by decide +kernel
theorem dX1_unlink_52 : decode cX1_unlink 52 = .ok (.iload_n 1, 1) := by decide +kernel
theorem dX1_unlink_53 : decode cX1_unlink 53 = .ok (.iaload, 1) := by decide +kernel
theorem dX1_unlink_54 : decode cX1_unlink 54 = .ok (.dup2, 1) := by decide +kernel
theorem dX1_unlink_55 : decode cX1_unlink 55 = .ok (.iaload, 1) := by decide +kernel
theorem dX1_unlink_56 : decode cX1_unlink 56 = .ok (.iconst 1, 1) := by decide +kernel
theorem dX1_unlink_57 : decode cX1_unlink 57 = .ok (.isub, 1) := by decide +kernel
theorem dX1_unlink_58 : decode cX1_unlink 58 = .ok (.iastore, 1) := by decide +kernel
theorem dX1_unlink_59 : decode cX1_unlink 59 = .ok (.aload_n 0, 1) := by decide +kernel
theorem dX1_unlink_60 : decode cX1_unlink 60 = .ok (.getfield 16, 3) := by decide +kernel
theorem dX1_unlink_63 : decode cX1_unlink 63 = .ok (.iload_n 1, 1) := by decide +kernel
theorem dX1_unlink_64 : decode cX1_unlink 64 = .ok (.iconst 0, 1) := by decide +kernel
theorem dX1_unlink_65 : decode cX1_unlink 65 = .ok (.iastore, 1) := by decide +kernel
theorem dX1_unlink_66 : decode cX1_unlink 66 = .ok (.return_, 1) := by decide +kernel
abbrev cX1_atLeastOne : ByteArray := prog_1_method_9_code
def yX1_atLeastOne : MethodName := ⟨RX1, "atLeastOne", "(II)I"⟩
theorem dX1_atLeastOne_0 : decode cX1_atLeastOne 0 = .ok (.iload_n 0, 1) := by decide +kernel
theorem dX1_atLeastOne_1 : decode cX1_atLeastOne 1 = .ok (.iload_n 1, 1) := by decide +kernel
theorem dX1_atLeastOne_2 : decode cX1_atLeastOne 2 = .ok (.idiv, 1) := by decide +kernel
theorem dX1_atLeastOne_3 : decode cX1_atLeastOne 3 = .ok (.istore_n 2, 1) := by decide +kernel
theorem dX1_atLeastOne_4 : decode cX1_atLeastOne 4 = .ok (.iload_n 2, 1) := by decide +kernel
theorem dX1_atLeastOne_5 : decode cX1_atLeastOne 5 = .ok (.iconst 1, 1) := by decide +kernel
theorem dX1_atLeastOne_6 : decode cX1_atLeastOne 6 = .ok (.if_icmp .ge 7, 3) := by decide +kernel
theorem dX1_atLeastOne_9 : decode cX1_atLeastOne 9 = .ok (.iconst 1, 1) := by decide +kernel
theorem dX1_atLeastOne_10 : decode cX1_atLeastOne 10 = .ok (.goto 4, 3) := by decide +kernel
theorem dX1_atLeastOne_13 : decode cX1_atLeastOne 13 = .ok (.iload_n 2, 1) := by decide +kernel
theorem dX1_atLeastOne_14 : decode cX1_atLeastOne 14 = .ok (.ireturn, 1) := by decide +kernel
abbrev cX1_makeRoom : ByteArray := prog_1_method_8_code
def yX1_makeRoom : MethodName := ⟨RX1, "makeRoom", "(I)V"⟩
theorem dX1_makeRoom_0 : decode cX1_makeRoom 0 = .ok (.aload_n 0, 1) := by decide +kernel
theorem dX1_makeRoom_1 : decode cX1_makeRoom 1 = .ok (.getfield 19, 3) := by decide +kernel
theorem dX1_makeRoom_4 : decode cX1_makeRoom 4 = .ok (.iconst 1, 1) := by decide +kernel
theorem dX1_makeRoom_5 : decode cX1_makeRoom 5 = .ok (.iaload, 1) := by decide +kernel
theorem dX1_makeRoom_6 : decode cX1_makeRoom 6 = .ok (.aload_n 0, 1) := by decide +kernel
theorem dX1_makeRoom_7 : decode cX1_makeRoom 7 = .ok (.getfield 39, 3) := by decide +kernel
theorem dX1_makeRoom_10 : decode cX1_makeRoom 10 = .ok (.if_icmp .gt 33, 3) := by decide +kernel
theorem dX1_makeRoom_13 : decode cX1_makeRoom 13 = .ok (.aload_n 0, 1) := by decide +kernel
theorem dX1_makeRoom_14 : decode cX1_makeRoom 14 = .ok (.getfield 19, 3) := by decide +kernel
theorem dX1_makeRoom_17 : decode cX1_makeRoom 17 = .ok (.iconst 1, 1) := by decide +kernel
theorem dX1_makeRoom_18 : decode cX1_makeRoom 18 = .ok (.iaload, 1) := by decide +kernel
theorem dX1_makeRoom_19 : decode cX1_makeRoom 19 = .ok (.aload_n 0, 1) := by decide +kernel
theorem dX1_makeRoom_20 : decode cX1_makeRoom 20 = .ok (.getfield 39, 3) := by decide +kernel
theorem dX1_makeRoom_23 : decode cX1_makeRoom 23 = .ok (.if_icmp .ne 24, 3) := by decide +kernel
theorem dX1_makeRoom_26 : decode cX1_makeRoom 26 = .ok (.aload_n 0, 1) := by decide +kernel
theorem dX1_makeRoom_27 : decode cX1_makeRoom 27 = .ok (.getfield 39, 3) := by decide +kernel
theorem dX1_makeRoom_30 : decode cX1_makeRoom 30 = .ok (.ifCond .le 17, 3) := by decide +kernel
theorem dX1_makeRoom_33 : decode cX1_makeRoom 33 = .ok (.aload_n 0, 1) := by decide +kernel
theorem dX1_makeRoom_34 : decode cX1_makeRoom 34 = .ok (.getfield 16, 3) := by decide +kernel
theorem dX1_makeRoom_37 : decode cX1_makeRoom 37 = .ok (.iload_n 1, 1) := by decide +kernel
theorem dX1_makeRoom_38 : decode cX1_makeRoom 38 = .ok (.iaload, 1) := by decide +kernel
theorem dX1_makeRoom_39 : decode cX1_makeRoom 39 = .ok (.iconst 4, 1) := by decide +kernel
theorem dX1_makeRoom_40 : decode cX1_makeRoom 40 = .ok (.if_icmp .ne 7, 3) := by decide +kernel
theorem dX1_makeRoom_43 : decode cX1_makeRoom 43 = .ok (.iconst 1, 1) := by decide +kernel
theorem dX1_makeRoom_44 : decode cX1_makeRoom 44 = .ok (.goto 4, 3) := by decide +kernel
theorem dX1_makeRoom_47 : decode cX1_makeRoom 47 = .ok (.iconst 0, 1) := by decide +kernel
theorem dX1_makeRoom_48 : decode cX1_makeRoom 48 = .ok (.istore_n 2, 1) := by decide +kernel
theorem dX1_makeRoom_49 : decode cX1_makeRoom 49 = .ok (.aload_n 0, 1) := by decide +kernel
theorem dX1_makeRoom_50 : decode cX1_makeRoom 50 = .ok (.iload_n 2, 1) := by decide +kernel
theorem dX1_makeRoom_51 : decode cX1_makeRoom 51 = .ok (.ifCond .eq 7, 3) := by decide +kernel
theorem dX1_makeRoom_54 : decode cX1_makeRoom 54 = .ok (.iconst 1, 1) := by decide +kernel
theorem dX1_makeRoom_55 : decode cX1_makeRoom 55 = .ok (.goto 4, 3) := by decide +kernel
theorem dX1_makeRoom_58 : decode cX1_makeRoom 58 = .ok (.iconst 2, 1) := by decide +kernel
theorem dX1_makeRoom_59 : decode cX1_makeRoom 59 = .ok (.invokevirtual 55, 3) := by decide +kernel
theorem dX1_makeRoom_62 : decode cX1_makeRoom 62 = .ok (.istore_n 3, 1) := by decide +kernel
theorem dX1_makeRoom_63 : decode cX1_makeRoom 63 = .ok (.aload_n 0, 1) := by decide +kernel
theorem dX1_makeRoom_64 : decode cX1_makeRoom 64 = .ok (.iload_n 3, 1) := by decide +kernel
theorem dX1_makeRoom_65 : decode cX1_makeRoom 65 = .ok (.invokevirtual 59, 3) := by decide +kernel
theorem dX1_makeRoom_68 : decode cX1_makeRoom 68 = .ok (.aload_n 0, 1) := by decide +kernel
theorem dX1_makeRoom_69 : decode cX1_makeRoom 69 = .ok (.iload_n 3, 1) := by decide +kernel
theorem dX1_makeRoom_70 : decode cX1_makeRoom 70 = .ok (.iload_n 2, 1) := by decide +kernel
theorem dX1_makeRoom_71 : decode cX1_makeRoom 71 = .ok (.ifCond .eq 7, 3) := by decide +kernel
theorem dX1_makeRoom_74 : decode cX1_makeRoom 74 = .ok (.iconst 3, 1) := by decide +kernel
theorem dX1_makeRoom_75 : decode cX1_makeRoom 75 = .ok (.goto 4, 3) := by decide +kernel
theorem dX1_makeRoom_78 : decode cX1_makeRoom 78 = .ok (.iconst 4, 1) := by decide +kernel
theorem dX1_makeRoom_79 : decode cX1_makeRoom 79 = .ok (.invokevirtual 62, 3) := by decide +kernel
theorem dX1_makeRoom_82 : decode cX1_makeRoom 82 = .ok (.return_, 1) := by decide +kernel
abbrev cX1_old : ByteArray := prog_1_method_6_code
def yX1_old : MethodName := ⟨RX1, "old", "(I)I"⟩
theorem dX1_old_0 : decode cX1_old 0 = .ok (.aload_n 0, 1) := by decide +kernel
theorem dX1_old_1 : decode cX1_old 1 = .ok (.getfield 13, 3) := by decide +kernel
theorem dX1_old_4 : decode cX1_old 4 = .ok (.bipush 64, 2) := by decide +kernel
theorem dX1_old_6 : decode cX1_old 6 = .ok (.iload_n 1, 1) := by decide +kernel
theorem dX1_old_7 : decode cX1_old 7 = .ok (.iadd, 1) := by decide +kernel
theorem dX1_old_8 : decode cX1_old 8 = .ok (.iaload, 1) := by decide +kernel
theorem dX1_old_9 : decode cX1_old 9 = .ok (.ireturn, 1) := by decide +kernel
abbrev cX1_go : ByteArray := prog_1_method_7_code
def yX1_go : MethodName := ⟨RX1, "go", "(I)V"⟩
theorem dX1_go_0 : decode cX1_go 0 = .ok (.aload_n 0, 1) := by decide +kernel
theorem dX1_go_1 : decode cX1_go 1 = .ok (.getfield 25, 3) := by decide +kernel
theorem dX1_go_4 : decode cX1_go 4 = .ok (.iload_n 1, 1) := by decide +kernel
theorem dX1_go_5 : decode cX1_go 5 = .ok (.baload, 1) := by decide +kernel
theorem dX1_go_6 : decode cX1_go 6 = .ok (.ifCond .eq 15, 3) := by decide +kernel
theorem dX1_go_9 : decode cX1_go 9 = .ok (.aload_n 0, 1) := by decide +kernel
theorem dX1_go_10 : decode cX1_go 10 = .ok (.getfield 29, 3) := by decide +kernel
theorem dX1_go_13 : decode cX1_go 13 = .ok (.iload_n 1, 1) := by decide +kernel
theorem dX1_go_14 : decode cX1_go 14 = .ok (.aload_n 0, 1) := by decide +kernel
theorem dX1_go_15 : decode cX1_go 15 = .ok (.getfield 22, 3) := by decide +kernel
theorem dX1_go_18 : decode cX1_go 18 = .ok (.iload_n 1, 1) := by decide +kernel
theorem dX1_go_19 : decode cX1_go 19 = .ok (.iaload, 1) := by decide +kernel
theorem dX1_go_20 : decode cX1_go 20 = .ok (.iastore, 1) := by decide +kernel
theorem dX1_go_21 : decode cX1_go 21 = .ok (.aload_n 0, 1) := by decide +kernel
theorem dX1_go_22 : decode cX1_go 22 = .ok (.getfield 25, 3) := by decide +kernel
theorem dX1_go_25 : decode cX1_go 25 = .ok (.iload_n 1, 1) := by decide +kernel
theorem dX1_go_26 : decode cX1_go 26 = .ok (.iconst 0, 1) := by decide +kernel
theorem dX1_go_27 : decode cX1_go 27 = .ok (.bastore, 1) := by decide +kernel
theorem dX1_go_28 : decode cX1_go 28 = .ok (.aload_n 0, 1) := by decide +kernel
theorem dX1_go_29 : decode cX1_go 29 = .ok (.dup, 1) := by decide +kernel
theorem dX1_go_30 : decode cX1_go 30 = .ok (.getfield 48, 3) := by decide +kernel
theorem dX1_go_33 : decode cX1_go 33 = .ok (.iconst 1, 1) := by decide +kernel
theorem dX1_go_34 : decode cX1_go 34 = .ok (.iadd, 1) := by decide +kernel
theorem dX1_go_35 : decode cX1_go 35 = .ok (.putfield 48, 3) := by decide +kernel
theorem dX1_go_38 : decode cX1_go 38 = .ok (.return_, 1) := by decide +kernel
abbrev cX1_fresh : ByteArray := prog_1_method_11_code
def yX1_fresh : MethodName := ⟨RX1, "fresh", "(I)V"⟩
theorem dX1_fresh_0 : decode cX1_fresh 0 = .ok (.aload_n 0, 1) := by decide +kernel
theorem dX1_fresh_1 : decode cX1_fresh 1 = .ok (.getfield 19, 3) := by decide +kernel
theorem dX1_fresh_4 : decode cX1_fresh 4 = .ok (.iconst 1, 1) := by decide +kernel
theorem dX1_fresh_5 : decode cX1_fresh 5 = .ok (.iaload, 1) := by decide +kernel
theorem dX1_fresh_6 : decode cX1_fresh 6 = .ok (.aload_n 0, 1) := by decide +kernel
theorem dX1_fresh_7 : decode cX1_fresh 7 = .ok (.getfield 19, 3) := by decide +kernel
theorem dX1_fresh_10 : decode cX1_fresh 10 = .ok (.iconst 3, 1) := by decide +kernel
theorem dX1_fresh_11 : decode cX1_fresh 11 = .ok (.iaload, 1) := by decide +kernel
theorem dX1_fresh_12 : decode cX1_fresh 12 = .ok (.iadd, 1) := by decide +kernel
theorem dX1_fresh_13 : decode cX1_fresh 13 = .ok (.istore_n 2, 1) := by decide +kernel
theorem dX1_fresh_14 : decode cX1_fresh 14 = .ok (.iload_n 2, 1) := by decide +kernel
theorem dX1_fresh_15 : decode cX1_fresh 15 = .ok (.aload_n 0, 1) := by decide +kernel
theorem dX1_fresh_16 : decode cX1_fresh 16 = .ok (.getfield 19, 3) := by decide +kernel
theorem dX1_fresh_19 : decode cX1_fresh 19 = .ok (.iconst 2, 1) := by decide +kernel
theorem dX1_fresh_20 : decode cX1_fresh 20 = .ok (.iaload, 1) := by decide +kernel
theorem dX1_fresh_21 : decode cX1_fresh 21 = .ok (.iadd, 1) := by decide +kernel
theorem dX1_fresh_22 : decode cX1_fresh 22 = .ok (.aload_n 0, 1) := by decide +kernel
theorem dX1_fresh_23 : decode cX1_fresh 23 = .ok (.getfield 19, 3) := by decide +kernel
theorem dX1_fresh_26 : decode cX1_fresh 26 = .ok (.iconst 4, 1) := by decide +kernel
theorem dX1_fresh_27 : decode cX1_fresh 27 = .ok (.iaload, 1) := by decide +kernel
theorem dX1_fresh_28 : decode cX1_fresh 28 = .ok (.iadd, 1) := by decide +kernel
theorem dX1_fresh_29 : decode cX1_fresh 29 = .ok (.istore_n 3, 1) := by decide +kernel
theorem dX1_fresh_30 : decode cX1_fresh 30 = .ok (.iload_n 2, 1) := by decide +kernel
theorem dX1_fresh_31 : decode cX1_fresh 31 = .ok (.aload_n 0, 1) := by decide +kernel
theorem dX1_fresh_32 : decode cX1_fresh 32 = .ok (.getfield 32, 3) := by decide +kernel
theorem dX1_fresh_35 : decode cX1_fresh 35 = .ok (.if_icmp .ne 34, 3) := by decide +kernel
theorem dX1_fresh_38 : decode cX1_fresh 38 = .ok (.aload_n 0, 1) := by decide +kernel
theorem dX1_fresh_39 : decode cX1_fresh 39 = .ok (.getfield 19, 3) := by decide +kernel
theorem dX1_fresh_42 : decode cX1_fresh 42 = .ok (.iconst 1, 1) := by decide +kernel
theorem dX1_fresh_43 : decode cX1_fresh 43 = .ok (.iaload, 1) := by decide +kernel
theorem dX1_fresh_44 : decode cX1_fresh 44 = .ok (.aload_n 0, 1) := by decide +kernel
theorem dX1_fresh_45 : decode cX1_fresh 45 = .ok (.getfield 32, 3) := by decide +kernel
theorem dX1_fresh_48 : decode cX1_fresh 48 = .ok (.if_icmp .ge 21, 3) := by decide +kernel
theorem dX1_fresh_51 : decode cX1_fresh 51 = .ok (.aload_n 0, 1) := by decide +kernel
theorem dX1_fresh_52 : decode cX1_fresh 52 = .ok (.aload_n 0, 1) := by decide +kernel
theorem dX1_fresh_53 : decode cX1_fresh 53 = .ok (.iconst 3, 1) := by decide +kernel
theorem dX1_fresh_54 : decode cX1_fresh 54 = .ok (.invokevirtual 55, 3) := by decide +kernel
theorem dX1_fresh_57 : decode cX1_fresh 57 = .ok (.iconst 0, 1) := by decide +kernel
theorem dX1_fresh_58 : decode cX1_fresh 58 = .ok (.invokevirtual 62, 3) := by decide +kernel
theorem dX1_fresh_61 : decode cX1_fresh 61 = .ok (.aload_n 0, 1) := by decide +kernel
theorem dX1_fresh_62 : decode cX1_fresh 62 = .ok (.iload_n 1, 1) := by decide +kernel
theorem dX1_fresh_63 : decode cX1_fresh 63 = .ok (.invokevirtual 70, 3) := by decide +kernel
theorem dX1_fresh_66 : decode cX1_fresh 66 = .ok (.goto 67, 3) := by decide +kernel
theorem dX1_fresh_69 : decode cX1_fresh 69 = .ok (.iload_n 2, 1) := by decide +kernel
theorem dX1_fresh_70 : decode cX1_fresh 70 = .ok (.aload_n 0, 1) := by decide +kernel
theorem dX1_fresh_71 : decode cX1_fresh 71 = .ok (.getfield 32, 3) := by decide +kernel
theorem dX1_fresh_74 : decode cX1_fresh 74 = .ok (.if_icmp .ne 26, 3) := by decide +kernel
theorem dX1_fresh_77 : decode cX1_fresh 77 = .ok (.aload_n 0, 1) := by decide +kernel
theorem dX1_fresh_78 : decode cX1_fresh 78 = .ok (.iconst 1, 1) := by decide +kernel
theorem dX1_fresh_79 : decode cX1_fresh 79 = .ok (.invokevirtual 55, 3) := by decide +kernel
theorem dX1_fresh_82 : decode cX1_fresh 82 = .ok (.istore 4, 2) := by decide +kernel
theorem dX1_fresh_84 : decode cX1_fresh 84 = .ok (.aload_n 0, 1) := by decide +kernel
theorem dX1_fresh_85 : decode cX1_fresh 85 = .ok (.iload 4, 2) := by decide +kernel
theorem dX1_fresh_87 : decode cX1_fresh 87 = .ok (.invokevirtual 59, 3) := by decide +kernel
theorem dX1_fresh_90 : decode cX1_fresh 90 = .ok (.aload_n 0, 1) := by decide +kernel
theorem dX1_fresh_91 : decode cX1_fresh 91 = .ok (.iload 4, 2) := by decide +kernel
theorem dX1_fresh_93 : decode cX1_fresh 93 = .ok (.iconst 0, 1) := by decide +kernel
theorem dX1_fresh_94 : decode cX1_fresh 94 = .ok (.invokevirtual 62, 3) := by decide +kernel
theorem dX1_fresh_97 : decode cX1_fresh 97 = .ok (.goto 36, 3) := by decide +kernel
theorem dX1_fresh_100 : decode cX1_fresh 100 = .ok (.iload_n 3, 1) := by decide +kernel
theorem dX1_fresh_101 : decode cX1_fresh 101 = .ok (.aload_n 0, 1) := by decide +kernel
theorem dX1_fresh_102 : decode cX1_fresh 102 = .ok (.getfield 32, 3) := by decide +kernel
theorem dX1_fresh_105 : decode cX1_fresh 105 = .ok (.if_icmp .lt 28, 3) := by decide +kernel
theorem dX1_fresh_108 : decode cX1_fresh 108 = .ok (.iload_n 3, 1) := by decide +kernel
theorem dX1_fresh_109 : decode cX1_fresh 109 = .ok (.iconst 2, 1) := by decide +kernel
theorem dX1_fresh_110 : decode cX1_fresh 110 = .ok (.aload_n 0, 1) := by decide +kernel
theorem dX1_fresh_111 : decode cX1_fresh 111 = .ok (.getfield 32, 3) := by decide +kernel
theorem dX1_fresh_114 : decode cX1_fresh 114 = .ok (.imul, 1) := by decide +kernel
theorem dX1_fresh_115 : decode cX1_fresh 115 = .ok (.if_icmp .ne 13, 3) := by decide +kernel
theorem dX1_fresh_118 : decode cX1_fresh 118 = .ok (.aload_n 0, 1) := by decide +kernel
theorem dX1_fresh_119 : decode cX1_fresh 119 = .ok (.aload_n 0, 1) := by decide +kernel
theorem dX1_fresh_120 : decode cX1_fresh 120 = .ok (.iconst 4, 1) := by decide +kernel
theorem dX1_fresh_121 : decode cX1_fresh 121 = .ok (.invokevirtual 55, 3) := by decide +kernel
theorem dX1_fresh_124 : decode cX1_fresh 124 = .ok (.iconst 0, 1) := by decide +kernel
theorem dX1_fresh_125 : decode cX1_fresh 125 = .ok (.invokevirtual 62, 3) := by decide +kernel
theorem dX1_fresh_128 : decode cX1_fresh 128 = .ok (.aload_n 0, 1) := by decide +kernel
theorem dX1_fresh_129 : decode cX1_fresh 129 = .ok (.iload_n 1, 1) := by decide +kernel
theorem dX1_fresh_130 : decode cX1_fresh 130 = .ok (.invokevirtual 70, 3) := by decide +kernel
theorem dX1_fresh_133 : decode cX1_fresh 133 = .ok (.return_, 1) := by decide +kernel
abbrev cX1_write : ByteArray := prog_1_method_13_code
def yX1_write : MethodName := ⟨RX1, "write", "(II)Z"⟩
theorem dX1_write_0 : decode cX1_write 0 = .ok (.iload_n 1, 1) := by decide +kernel
theorem dX1_write_1 : decode cX1_write 1 = .ok (.invokestatic 76, 3) := by decide +kernel
theorem dX1_write_4 : decode cX1_write 4 = .ok (.ifCond .ne 5, 3) := by decide +kernel
theorem dX1_write_7 : decode cX1_write 7 = .ok (.iconst 0, 1) := by decide +kernel
theorem dX1_write_8 : decode cX1_write 8 = .ok (.ireturn, 1) := by decide +kernel
theorem dX1_write_9 : decode cX1_write 9 = .ok (.aload_n 0, 1) := by decide +kernel
theorem dX1_write_10 : decode cX1_write 10 = .ok (.iload_n 1, 1) := by decide +kernel
theorem dX1_write_11 : decode cX1_write 11 = .ok (.invokevirtual 80, 3) := by decide +kernel
theorem dX1_write_14 : decode cX1_write 14 = .ok (.aload_n 0, 1) := by decide +kernel
theorem dX1_write_15 : decode cX1_write 15 = .ok (.getfield 22, 3) := by decide +kernel
theorem dX1_write_18 : decode cX1_write 18 = .ok (.iload_n 1, 1) := by decide +kernel
theorem dX1_write_19 : decode cX1_write 19 = .ok (.iload_n 2, 1) := by decide +kernel
theorem dX1_write_20 : decode cX1_write 20 = .ok (.iastore, 1) := by decide +kernel
theorem dX1_write_21 : decode cX1_write 21 = .ok (.aload_n 0, 1) := by decide +kernel
theorem dX1_write_22 : decode cX1_write 22 = .ok (.getfield 25, 3) := by decide +kernel
theorem dX1_write_25 : decode cX1_write 25 = .ok (.iload_n 1, 1) := by decide +kernel
theorem dX1_write_26 : decode cX1_write 26 = .ok (.iconst 1, 1) := by decide +kernel
theorem dX1_write_27 : decode cX1_write 27 = .ok (.bastore, 1) := by decide +kernel
theorem dX1_write_28 : decode cX1_write 28 = .ok (.iconst 1, 1) := by decide +kernel
theorem dX1_write_29 : decode cX1_write 29 = .ok (.ireturn, 1) := by decide +kernel
abbrev cX1_flush : ByteArray := prog_1_method_14_code
def yX1_flush : MethodName := ⟨RX1, "flush", "()I"⟩
theorem dX1_flush_0 : decode cX1_flush 0 = .ok (.iconst 0, 1) := by decide +kernel
theorem dX1_flush_1 : decode cX1_flush 1 = .ok (.istore_n 1, 1) := by decide +kernel
theorem dX1_flush_2 : decode cX1_flush 2 = .ok (.iconst 0, 1) := by decide +kernel
theorem dX1_flush_3 : decode cX1_flush 3 = .ok (.istore_n 2, 1) := by decide +kernel
theorem dX1_flush_4 : decode cX1_flush 4 = .ok (.iload_n 2, 1) := by decide +kernel
theorem dX1_flush_5 : decode cX1_flush 5 = .ok (.bipush 64, 2) := by decide +kernel
theorem dX1_flush_7 : decode cX1_flush 7 = .ok (.if_icmp .ge 43, 3) := by decide +kernel
theorem dX1_flush_10 : decode cX1_flush 10 = .ok (.aload_n 0, 1) := by decide +kernel
theorem dX1_flush_11 : decode cX1_flush 11 = .ok (.getfield 25, 3) := by decide +kernel
theorem dX1_flush_14 : decode cX1_flush 14 = .ok (.iload_n 2, 1) := by decide +kernel
theorem dX1_flush_15 : decode cX1_flush 15 = .ok (.baload, 1) := by decide +kernel
theorem dX1_flush_16 : decode cX1_flush 16 = .ok (.ifCond .ne 6, 3) := by decide +kernel
theorem dX1_flush_19 : decode cX1_flush 19 = .ok (.goto 25, 3) := by decide +kernel
theorem dX1_flush_22 : decode cX1_flush 22 = .ok (.aload_n 0, 1) := by decide +kernel
theorem dX1_flush_23 : decode cX1_flush 23 = .ok (.getfield 29, 3) := by decide +kernel
theorem dX1_flush_26 : decode cX1_flush 26 = .ok (.iload_n 2, 1) := by decide +kernel
theorem dX1_flush_27 : decode cX1_flush 27 = .ok (.aload_n 0, 1) := by decide +kernel
theorem dX1_flush_28 : decode cX1_flush 28 = .ok (.getfield 22, 3) := by decide +kernel
theorem dX1_flush_31 : decode cX1_flush 31 = .ok (.iload_n 2, 1) := by decide +kernel
theorem dX1_flush_32 : decode cX1_flush 32 = .ok (.iaload, 1) := by decide +kernel
theorem dX1_flush_33 : decode cX1_flush 33 = .ok (.iastore, 1) := by decide +kernel
theorem dX1_flush_34 : decode cX1_flush 34 = .ok (.aload_n 0, 1) := by decide +kernel
theorem dX1_flush_35 : decode cX1_flush 35 = .ok (.getfield 25, 3) := by decide +kernel
theorem dX1_flush_38 : decode cX1_flush 38 = .ok (.iload_n 2, 1) := by decide +kernel
theorem dX1_flush_39 : decode cX1_flush 39 = .ok (.iconst 0, 1) := by decide +kernel
theorem dX1_flush_40 : decode cX1_flush 40 = .ok (.bastore, 1) := by decide +kernel
theorem dX1_flush_41 : decode cX1_flush 41 = .ok (.iinc 1 1, 3) := by decide +kernel
theorem dX1_flush_44 : decode cX1_flush 44 = .ok (.iinc 2 1, 3) := by decide +kernel
theorem dX1_flush_47 : decode cX1_flush 47 = .ok (.goto (-43), 3) := by decide +kernel
theorem dX1_flush_50 : decode cX1_flush 50 = .ok (.iload_n 1, 1) := by decide +kernel
theorem dX1_flush_51 : decode cX1_flush 51 = .ok (.ireturn, 1) := by decide +kernel
abbrev cX1_whichList : ByteArray := prog_1_method_15_code
def yX1_whichList : MethodName := ⟨RX1, "whichList", "(I)I"⟩
theorem dX1_whichList_0 : decode cX1_whichList 0 = .ok (.iload_n 1, 1) := by decide +kernel
theorem dX1_whichList_1 : decode cX1_whichList 1 = .ok (.invokestatic 76, 3) := by decide +kernel
theorem dX1_whichList_4 : decode cX1_whichList 4 = .ok (.ifCond .eq 12, 3) := by decide +kernel
theorem dX1_whichList_7 : decode cX1_whichList 7 = .ok (.aload_n 0, 1) := by decide +kernel
theorem dX1_whichList_8 : decode cX1_whichList 8 = .ok (.getfield 16, 3) := by decide +kernel
theorem dX1_whichList_11 : decode cX1_whichList 11 = .ok (.iload_n 1, 1) := by decide +kernel
theorem dX1_whichList_12 : decode cX1_whichList 12 = .ok (.iaload, 1) := by decide +kernel
theorem dX1_whichList_13 : decode cX1_whichList 13 = .ok (.goto 4, 3) := by decide +kernel
theorem dX1_whichList_16 : decode cX1_whichList 16 = .ok (.iconst 0, 1) := by decide +kernel
theorem dX1_whichList_17 : decode cX1_whichList 17 = .ok (.ireturn, 1) := by decide +kernel
abbrev cX1_at : ByteArray := prog_1_method_16_code
def yX1_at : MethodName := ⟨RX1, "at", "(II)I"⟩
theorem dX1_at_0 : decode cX1_at 0 = .ok (.iload_n 1, 1) := by decide +kernel
theorem dX1_at_1 : decode cX1_at 1 = .ok (.iconst 1, 1) := by decide +kernel
theorem dX1_at_2 : decode cX1_at 2 = .ok (.if_icmp .lt 22, 3) := by decide +kernel
theorem dX1_at_5 : decode cX1_at 5 = .ok (.iload_n 1, 1) := by decide +kernel
theorem dX1_at_6 : decode cX1_at 6 = .ok (.iconst 4, 1) := by decide +kernel
theorem dX1_at_7 : decode cX1_at 7 = .ok (.if_icmp .gt 17, 3) := by decide +kernel
theorem dX1_at_10 : decode cX1_at 10 = .ok (.iload_n 2, 1) := by decide +kernel
theorem dX1_at_11 : decode cX1_at 11 = .ok (.ifCond .lt 13, 3) := by decide +kernel
theorem dX1_at_14 : decode cX1_at 14 = .ok (.iload_n 2, 1) := by decide +kernel
theorem dX1_at_15 : decode cX1_at 15 = .ok (.aload_n 0, 1) := by decide +kernel
theorem dX1_at_16 : decode cX1_at 16 = .ok (.getfield 19, 3) := by decide +kernel
theorem dX1_at_19 : decode cX1_at 19 = .ok (.iload_n 1, 1) := by decide +kernel
theorem dX1_at_20 : decode cX1_at 20 = .ok (.iaload, 1) := by decide +kernel
theorem dX1_at_21 : decode cX1_at 21 = .ok (.if_icmp .lt 5, 3) := by decide +kernel
theorem dX1_at_24 : decode cX1_at 24 = .ok (.iconst (-1), 1) := by decide +kernel
theorem dX1_at_25 : decode cX1_at 25 = .ok (.ireturn, 1) := by decide +kernel
theorem dX1_at_26 : decode cX1_at 26 = .ok (.aload_n 0, 1) := by decide +kernel
theorem dX1_at_27 : decode cX1_at 27 = .ok (.getfield 7, 3) := by decide +kernel
theorem dX1_at_30 : decode cX1_at 30 = .ok (.bipush 64, 2) := by decide +kernel
theorem dX1_at_32 : decode cX1_at 32 = .ok (.iload_n 1, 1) := by decide +kernel
theorem dX1_at_33 : decode cX1_at 33 = .ok (.iadd, 1) := by decide +kernel
theorem dX1_at_34 : decode cX1_at 34 = .ok (.iaload, 1) := by decide +kernel
theorem dX1_at_35 : decode cX1_at 35 = .ok (.istore_n 3, 1) := by decide +kernel
theorem dX1_at_36 : decode cX1_at 36 = .ok (.iconst 0, 1) := by decide +kernel
theorem dX1_at_37 : decode cX1_at 37 = .ok (.istore 4, 2) := by decide +kernel
theorem dX1_at_39 : decode cX1_at 39 = .ok (.iload 4, 2) := by decide +kernel
theorem dX1_at_41 : decode cX1_at 41 = .ok (.iload_n 2, 1) := by decide +kernel
theorem dX1_at_42 : decode cX1_at 42 = .ok (.if_icmp .ge 16, 3) := by decide +kernel
theorem dX1_at_45 : decode cX1_at 45 = .ok (.aload_n 0, 1) := by decide +kernel
theorem dX1_at_46 : decode cX1_at 46 = .ok (.getfield 7, 3) := by decide +kernel
theorem dX1_at_49 : decode cX1_at 49 = .ok (.iload_n 3, 1) := by decide +kernel
theorem dX1_at_50 : decode cX1_at 50 = .ok (.iaload, 1) := by decide +kernel
theorem dX1_at_51 : decode cX1_at 51 = .ok (.istore_n 3, 1) := by decide +kernel
theorem dX1_at_52 : decode cX1_at 52 = .ok (.iinc 4 1, 3) := by decide +kernel
theorem dX1_at_55 : decode cX1_at 55 = .ok (.goto (-16), 3) := by decide +kernel
theorem dX1_at_58 : decode cX1_at 58 = .ok (.iload_n 3, 1) := by decide +kernel
theorem dX1_at_59 : decode cX1_at 59 = .ok (.ireturn, 1) := by decide +kernel
abbrev cX1_length : ByteArray := prog_1_method_17_code
def yX1_length : MethodName := ⟨RX1, "length", "(I)I"⟩
theorem dX1_length_0 : decode cX1_length 0 = .ok (.iload_n 1, 1) := by decide +kernel
theorem dX1_length_1 : decode cX1_length 1 = .ok (.iconst 1, 1) := by decide +kernel
theorem dX1_length_2 : decode cX1_length 2 = .ok (.if_icmp .lt 8, 3) := by decide +kernel
theorem dX1_length_5 : decode cX1_length 5 = .ok (.iload_n 1, 1) := by decide +kernel
theorem dX1_length_6 : decode cX1_length 6 = .ok (.iconst 4, 1) := by decide +kernel
theorem dX1_length_7 : decode cX1_length 7 = .ok (.if_icmp .le 7, 3) := by decide +kernel
theorem dX1_length_10 : decode cX1_length 10 = .ok (.iconst (-1), 1) := by decide +kernel
theorem dX1_length_11 : decode cX1_length 11 = .ok (.goto 9, 3) := by decide +kernel
theorem dX1_length_14 : decode cX1_length 14 = .ok (.aload_n 0, 1) := by decide +kernel
theorem dX1_length_15 : decode cX1_length 15 = .ok (.getfield 19, 3) := by decide +kernel
theorem dX1_length_18 : decode cX1_length 18 = .ok (.iload_n 1, 1) := by decide +kernel
theorem dX1_length_19 : decode cX1_length 19 = .ok (.iaload, 1) := by decide +kernel
theorem dX1_length_20 : decode cX1_length 20 = .ok (.ireturn, 1) := by decide +kernel
abbrev cX1_target : ByteArray := prog_1_method_18_code
def yX1_target : MethodName := ⟨RX1, "target", "()I"⟩
theorem dX1_target_0 : decode cX1_target 0 = .ok (.aload_n 0, 1) := by decide +kernel
theorem dX1_target_1 : decode cX1_target 1 = .ok (.getfield 39, 3) := by decide +kernel
theorem dX1_target_4 : decode cX1_target 4 = .ok (.ireturn, 1) := by decide +kernel
abbrev cX1_hits : ByteArray := prog_1_method_19_code
def yX1_hits : MethodName := ⟨RX1, "hits", "()I"⟩
theorem dX1_hits_0 : decode cX1_hits 0 = .ok (.aload_n 0, 1) := by decide +kernel
theorem dX1_hits_1 : decode cX1_hits 1 = .ok (.getfield 42, 3) := by decide +kernel
theorem dX1_hits_4 : decode cX1_hits 4 = .ok (.ireturn, 1) := by decide +kernel
abbrev cX1_misses : ByteArray := prog_1_method_20_code
def yX1_misses : MethodName := ⟨RX1, "misses", "()I"⟩
theorem dX1_misses_0 : decode cX1_misses 0 = .ok (.aload_n 0, 1) := by decide +kernel
theorem dX1_misses_1 : decode cX1_misses 1 = .ok (.getfield 45, 3) := by decide +kernel
theorem dX1_misses_4 : decode cX1_misses 4 = .ok (.ireturn, 1) := by decide +kernel
abbrev cX1_store : ByteArray := prog_1_method_21_code
def yX1_store : MethodName := ⟨RX1, "store", "(I)I"⟩
theorem dX1_store_0 : decode cX1_store 0 = .ok (.iload_n 1, 1) := by decide +kernel
theorem dX1_store_1 : decode cX1_store 1 = .ok (.invokestatic 76, 3) := by decide +kernel
theorem dX1_store_4 : decode cX1_store 4 = .ok (.ifCond .eq 12, 3) := by decide +kernel
theorem dX1_store_7 : decode cX1_store 7 = .ok (.aload_n 0, 1) := by decide +kernel
theorem dX1_store_8 : decode cX1_store 8 = .ok (.getfield 29, 3) := by decide +kernel
theorem dX1_store_11 : decode cX1_store 11 = .ok (.iload_n 1, 1) := by decide +kernel
theorem dX1_store_12 : decode cX1_store 12 = .ok (.iaload, 1) := by decide +kernel
theorem dX1_store_13 : decode cX1_store 13 = .ok (.goto 4, 3) := by decide +kernel
theorem dX1_store_16 : decode cX1_store 16 = .ok (.iconst 0, 1) := by decide +kernel
theorem dX1_store_17 : decode cX1_store 17 = .ok (.ireturn, 1) := by decide +kernel
abbrev cX1_isDirty : ByteArray := prog_1_method_22_code
def yX1_isDirty : MethodName := ⟨RX1, "isDirty", "(I)Z"⟩
theorem dX1_isDirty_0 : decode cX1_isDirty 0 = .ok (.iload_n 1, 1) := by decide +kernel
theorem dX1_isDirty_1 : decode cX1_isDirty 1 = .ok (.invokestatic 76, 3) := by decide +kernel
theorem dX1_isDirty_4 : decode cX1_isDirty 4 = .ok (.ifCond .eq 16, 3) := by decide +kernel
theorem dX1_isDirty_7 : decode cX1_isDirty 7 = .ok (.aload_n 0, 1) := by decide +kernel
theorem dX1_isDirty_8 : decode cX1_isDirty 8 = .ok (.getfield 25, 3) := by decide +kernel
theorem dX1_isDirty_11 : decode cX1_isDirty 11 = .ok (.iload_n 1, 1) := by decide +kernel
theorem dX1_isDirty_12 : decode cX1_isDirty 12 = .ok (.baload, 1) := by decide +kernel
theorem dX1_isDirty_13 : decode cX1_isDirty 13 = .ok (.ifCond .eq 7, 3) := by decide +kernel
theorem dX1_isDirty_16 : decode cX1_isDirty 16 = .ok (.iconst 1, 1) := by decide +kernel
theorem dX1_isDirty_17 : decode cX1_isDirty 17 = .ok (.goto 4, 3) := by decide +kernel
theorem dX1_isDirty_20 : decode cX1_isDirty 20 = .ok (.iconst 0, 1) := by decide +kernel
theorem dX1_isDirty_21 : decode cX1_isDirty 21 = .ok (.ireturn, 1) := by decide +kernel
abbrev cX1_gone : ByteArray := prog_1_method_23_code
def yX1_gone : MethodName := ⟨RX1, "gone", "()I"⟩
theorem dX1_gone_0 : decode cX1_gone 0 = .ok (.aload_n 0, 1) := by decide +kernel
theorem dX1_gone_1 : decode cX1_gone 1 = .ok (.getfield 48, 3) := by decide +kernel
theorem dX1_gone_4 : decode cX1_gone 4 = .ok (.ireturn, 1) := by decide +kernel
theorem q16 : (Jvm.Cond.initialized "ArcCache") ∈ lw_all := lw_g (lw_at lw_m1 1 rfl) rfl
theorem q19 : (Jvm.Cond.instantiable "ArcCache" (12 : Nat)) ∈ lw_all := lw_g (lw_at lw_m1 4 rfl) rfl
theorem q21 : (Jvm.Cond.instanceMethod ({ cls := "ArcCache", name := "<init>", desc := "(I)V" } : Jvm.MethodName)) ∈ lw_all := lw_g (lw_at lw_m1 6 rfl) rfl
theorem q22 : (Jvm.Cond.code ({ cls := "ArcCache", name := "<init>", desc := "(I)V" } : Jvm.MethodName) prog_1_method_1_code (3 : Nat) (Option.none : Option Jvm.ClassFile.FieldType)) ∈ lw_all := lw_g (lw_at lw_m1 7 rfl) rfl
theorem q23 : (Jvm.Cond.methodLink "ArcCache" (1 : Nat) ({ cls := "java/lang/Object", name := "<init>", desc := "()V" } : Jvm.MethodName)) ∈ lw_all := lw_g (lw_at lw_m1 8 rfl) rfl
theorem q26 : (Jvm.Cond.methodLink "ArcCache" (36 : Nat) ({ cls := "ArcCache", name := "init", desc := "()V" } : Jvm.MethodName)) ∈ lw_all := lw_g (lw_at lw_m1 11 rfl) rfl
theorem q27 : (Jvm.Cond.instanceMethod ({ cls := "ArcCache", name := "init", desc := "()V" } : Jvm.MethodName)) ∈ lw_all := lw_g (lw_at lw_m1 12 rfl) rfl
theorem q28 : (Jvm.Cond.selects "ArcCache" ({ cls := "ArcCache", name := "init", desc := "()V" } : Jvm.MethodName) ({ cls := "ArcCache", name := "init", desc := "()V" } : Jvm.MethodName)) ∈ lw_all := lw_g (lw_at lw_m1 13 rfl) rfl
theorem q29 : (Jvm.Cond.code ({ cls := "ArcCache", name := "init", desc := "()V" } : Jvm.MethodName) prog_1_method_2_code (2 : Nat) (Option.none : Option Jvm.ClassFile.FieldType)) ∈ lw_all := lw_g (lw_at lw_m1 14 rfl) rfl
theorem q30 : (Jvm.Cond.fieldLink "ArcCache" (7 : Nat) "ArcCache" "next" "[I") ∈ lw_all := lw_g (lw_at lw_m1 15 rfl) rfl
theorem q31 : (Jvm.Cond.fieldLink "ArcCache" (13 : Nat) "ArcCache" "prev" "[I") ∈ lw_all := lw_g (lw_at lw_m1 16 rfl) rfl
theorem q32 : (Jvm.Cond.fieldLink "ArcCache" (16 : Nat) "ArcCache" "listOf" "[I") ∈ lw_all := lw_g (lw_at lw_m1 17 rfl) rfl
theorem q33 : (Jvm.Cond.fieldLink "ArcCache" (19 : Nat) "ArcCache" "lengths" "[I") ∈ lw_all := lw_g (lw_at lw_m1 18 rfl) rfl
theorem q34 : (Jvm.Cond.fieldLink "ArcCache" (22 : Nat) "ArcCache" "words" "[I") ∈ lw_all := lw_g (lw_at lw_m1 19 rfl) rfl
theorem q35 : (Jvm.Cond.fieldLink "ArcCache" (25 : Nat) "ArcCache" "dirty" "[Z") ∈ lw_all := lw_g (lw_at lw_m1 20 rfl) rfl
theorem q36 : (Jvm.Cond.fieldLink "ArcCache" (29 : Nat) "ArcCache" "backing" "[I") ∈ lw_all := lw_g (lw_at lw_m1 21 rfl) rfl
theorem q37 : (Jvm.Cond.fieldLink "ArcCache" (32 : Nat) "ArcCache" "c" "I") ∈ lw_all := lw_g (lw_at lw_m1 22 rfl) rfl
theorem q38 : (Jvm.Cond.fieldLink "ArcCache" (39 : Nat) "ArcCache" "target" "I") ∈ lw_all := lw_g (lw_at lw_m1 23 rfl) rfl
theorem q39 : (Jvm.Cond.fieldLink "ArcCache" (42 : Nat) "ArcCache" "hits" "I") ∈ lw_all := lw_g (lw_at lw_m1 24 rfl) rfl
theorem q40 : (Jvm.Cond.fieldLink "ArcCache" (45 : Nat) "ArcCache" "misses" "I") ∈ lw_all := lw_g (lw_at lw_m1 25 rfl) rfl
theorem q41 : (Jvm.Cond.fieldLink "ArcCache" (48 : Nat) "ArcCache" "gone" "I") ∈ lw_all := lw_g (lw_at lw_m1 26 rfl) rfl
theorem q42 : (Jvm.Cond.laysFinal "ArcCache" "ArcCache" "next" "[I") ∈ lw_all := lw_g (lw_at lw_m1 27 rfl) rfl
theorem q43 : (Jvm.Cond.soleField "ArcCache" "next") ∈ lw_all := lw_g (lw_at lw_m1 28 rfl) rfl
theorem q44 : (Jvm.Cond.laysFinal "ArcCache" "ArcCache" "prev" "[I") ∈ lw_all := lw_g (lw_at lw_m1 29 rfl) rfl
theorem q45 : (Jvm.Cond.soleField "ArcCache" "prev") ∈ lw_all := lw_g (lw_at lw_m1 30 rfl) rfl
theorem q46 : (Jvm.Cond.laysFinal "ArcCache" "ArcCache" "listOf" "[I") ∈ lw_all := lw_g (lw_at lw_m1 31 rfl) rfl
theorem q47 : (Jvm.Cond.soleField "ArcCache" "listOf") ∈ lw_all := lw_g (lw_at lw_m1 32 rfl) rfl
theorem q48 : (Jvm.Cond.laysFinal "ArcCache" "ArcCache" "lengths" "[I") ∈ lw_all := lw_g (lw_at lw_m1 33 rfl) rfl
theorem q49 : (Jvm.Cond.soleField "ArcCache" "lengths") ∈ lw_all := lw_g (lw_at lw_m1 34 rfl) rfl
theorem q50 : (Jvm.Cond.laysFinal "ArcCache" "ArcCache" "words" "[I") ∈ lw_all := lw_g (lw_at lw_m1 35 rfl) rfl
theorem q51 : (Jvm.Cond.soleField "ArcCache" "words") ∈ lw_all := lw_g (lw_at lw_m1 36 rfl) rfl
theorem q52 : (Jvm.Cond.laysFinal "ArcCache" "ArcCache" "dirty" "[Z") ∈ lw_all := lw_g (lw_at lw_m1 37 rfl) rfl
theorem q53 : (Jvm.Cond.soleField "ArcCache" "dirty") ∈ lw_all := lw_g (lw_at lw_m1 38 rfl) rfl
theorem q54 : (Jvm.Cond.laysFinal "ArcCache" "ArcCache" "backing" "[I") ∈ lw_all := lw_g (lw_at lw_m1 39 rfl) rfl
theorem q55 : (Jvm.Cond.soleField "ArcCache" "backing") ∈ lw_all := lw_g (lw_at lw_m1 40 rfl) rfl
theorem q56 : (Jvm.Cond.laysFinal "ArcCache" "ArcCache" "c" "I") ∈ lw_all := lw_g (lw_at lw_m1 41 rfl) rfl
theorem q57 : (Jvm.Cond.soleField "ArcCache" "c") ∈ lw_all := lw_g (lw_at lw_m1 42 rfl) rfl
theorem q58 : (Jvm.Cond.lays "ArcCache" "ArcCache" "target" "I") ∈ lw_all := lw_g (lw_at lw_m1 43 rfl) rfl
theorem q59 : (Jvm.Cond.soleField "ArcCache" "target") ∈ lw_all := lw_g (lw_at lw_m1 44 rfl) rfl
theorem q60 : (Jvm.Cond.lays "ArcCache" "ArcCache" "hits" "I") ∈ lw_all := lw_g (lw_at lw_m1 45 rfl) rfl
theorem q61 : (Jvm.Cond.soleField "ArcCache" "hits") ∈ lw_all := lw_g (lw_at lw_m1 46 rfl) rfl
theorem q62 : (Jvm.Cond.lays "ArcCache" "ArcCache" "misses" "I") ∈ lw_all := lw_g (lw_at lw_m1 47 rfl) rfl
theorem q63 : (Jvm.Cond.soleField "ArcCache" "misses") ∈ lw_all := lw_g (lw_at lw_m1 48 rfl) rfl
theorem q64 : (Jvm.Cond.lays "ArcCache" "ArcCache" "gone" "I") ∈ lw_all := lw_g (lw_at lw_m1 49 rfl) rfl
theorem q65 : (Jvm.Cond.soleField "ArcCache" "gone") ∈ lw_all := lw_g (lw_at lw_m1 50 rfl) rfl
theorem q66 : (Jvm.Cond.superclass "ArcCache" "java/lang/Object") ∈ lw_all := lw_g (lw_at lw_m1 51 rfl) rfl
theorem q71 : (Jvm.Cond.instanceMethod ({ cls := "ArcCache", name := "read", desc := "(I)I" } : Jvm.MethodName)) ∈ lw_all := lw_g (lw_at lw_m1 56 rfl) rfl
theorem q72 : (Jvm.Cond.selects "ArcCache" ({ cls := "ArcCache", name := "read", desc := "(I)I" } : Jvm.MethodName) ({ cls := "ArcCache", name := "read", desc := "(I)I" } : Jvm.MethodName)) ∈ lw_all := lw_g (lw_at lw_m1 57 rfl) rfl
theorem q73 : (Jvm.Cond.code ({ cls := "ArcCache", name := "read", desc := "(I)I" } : Jvm.MethodName) prog_1_method_12_code (2 : Nat) (Option.some Jvm.ClassFile.FieldType.int)) ∈ lw_all := lw_g (lw_at lw_m1 58 rfl) rfl
theorem q74 : (Jvm.Cond.methodLink "ArcCache" (76 : Nat) ({ cls := "ArcCache", name := "isAddress", desc := "(I)Z" } : Jvm.MethodName)) ∈ lw_all := lw_g (lw_at lw_m1 59 rfl) rfl
theorem q75 : (Jvm.Cond.static ({ cls := "ArcCache", name := "isAddress", desc := "(I)Z" } : Jvm.MethodName)) ∈ lw_all := lw_g (lw_at lw_m1 60 rfl) rfl
theorem q76 : (Jvm.Cond.code ({ cls := "ArcCache", name := "isAddress", desc := "(I)Z" } : Jvm.MethodName) prog_1_method_3_code (1 : Nat) (Option.some Jvm.ClassFile.FieldType.boolean)) ∈ lw_all := lw_g (lw_at lw_m1 61 rfl) rfl
theorem q77 : (Jvm.Cond.methodLink "ArcCache" (80 : Nat) ({ cls := "ArcCache", name := "request", desc := "(I)V" } : Jvm.MethodName)) ∈ lw_all := lw_g (lw_at lw_m1 62 rfl) rfl
theorem q78 : (Jvm.Cond.privateMethod ({ cls := "ArcCache", name := "request", desc := "(I)V" } : Jvm.MethodName)) ∈ lw_tbl := lw_at lw_m1 63 rfl
theorem q79 : (Jvm.Cond.instanceMethod ({ cls := "ArcCache", name := "request", desc := "(I)V" } : Jvm.MethodName)) ∈ lw_all := lw_g (lw_at lw_m1 64 rfl) rfl
theorem q80 : (Jvm.Cond.code ({ cls := "ArcCache", name := "request", desc := "(I)V" } : Jvm.MethodName) prog_1_method_10_code (3 : Nat) (Option.none : Option Jvm.ClassFile.FieldType)) ∈ lw_all := lw_g (lw_at lw_m1 65 rfl) rfl
theorem q81 : (Jvm.Cond.methodLink "ArcCache" (62 : Nat) ({ cls := "ArcCache", name := "move", desc := "(II)V" } : Jvm.MethodName)) ∈ lw_all := lw_g (lw_at lw_m1 66 rfl) rfl
theorem q82 : (Jvm.Cond.privateMethod ({ cls := "ArcCache", name := "move", desc := "(II)V" } : Jvm.MethodName)) ∈ lw_tbl := lw_at lw_m1 67 rfl
theorem q83 : (Jvm.Cond.instanceMethod ({ cls := "ArcCache", name := "move", desc := "(II)V" } : Jvm.MethodName)) ∈ lw_all := lw_g (lw_at lw_m1 68 rfl) rfl
theorem q84 : (Jvm.Cond.code ({ cls := "ArcCache", name := "move", desc := "(II)V" } : Jvm.MethodName) prog_1_method_5_code (4 : Nat) (Option.none : Option Jvm.ClassFile.FieldType)) ∈ lw_all := lw_g (lw_at lw_m1 69 rfl) rfl
theorem q85 : (Jvm.Cond.methodLink "ArcCache" (51 : Nat) ({ cls := "ArcCache", name := "unlink", desc := "(I)V" } : Jvm.MethodName)) ∈ lw_all := lw_g (lw_at lw_m1 70 rfl) rfl
theorem q86 : (Jvm.Cond.privateMethod ({ cls := "ArcCache", name := "unlink", desc := "(I)V" } : Jvm.MethodName)) ∈ lw_tbl := lw_at lw_m1 71 rfl
theorem q87 : (Jvm.Cond.instanceMethod ({ cls := "ArcCache", name := "unlink", desc := "(I)V" } : Jvm.MethodName)) ∈ lw_all := lw_g (lw_at lw_m1 72 rfl) rfl
theorem q88 : (Jvm.Cond.code ({ cls := "ArcCache", name := "unlink", desc := "(I)V" } : Jvm.MethodName) prog_1_method_4_code (2 : Nat) (Option.none : Option Jvm.ClassFile.FieldType)) ∈ lw_all := lw_g (lw_at lw_m1 73 rfl) rfl
theorem q89 : (Jvm.Cond.methodLink "ArcCache" (66 : Nat) ({ cls := "ArcCache", name := "atLeastOne", desc := "(II)I" } : Jvm.MethodName)) ∈ lw_all := lw_g (lw_at lw_m1 74 rfl) rfl
theorem q90 : (Jvm.Cond.static ({ cls := "ArcCache", name := "atLeastOne", desc := "(II)I" } : Jvm.MethodName)) ∈ lw_all := lw_g (lw_at lw_m1 75 rfl) rfl
theorem q91 : (Jvm.Cond.code ({ cls := "ArcCache", name := "atLeastOne", desc := "(II)I" } : Jvm.MethodName) prog_1_method_9_code (3 : Nat) (Option.some Jvm.ClassFile.FieldType.int)) ∈ lw_all := lw_g (lw_at lw_m1 76 rfl) rfl
theorem q92 : (Jvm.Cond.methodLink "ArcCache" (70 : Nat) ({ cls := "ArcCache", name := "makeRoom", desc := "(I)V" } : Jvm.MethodName)) ∈ lw_all := lw_g (lw_at lw_m1 77 rfl) rfl
theorem q93 : (Jvm.Cond.privateMethod ({ cls := "ArcCache", name := "makeRoom", desc := "(I)V" } : Jvm.MethodName)) ∈ lw_tbl := lw_at lw_m1 78 rfl
theorem q94 : (Jvm.Cond.instanceMethod ({ cls := "ArcCache", name := "makeRoom", desc := "(I)V" } : Jvm.MethodName)) ∈ lw_all := lw_g (lw_at lw_m1 79 rfl) rfl
theorem q95 : (Jvm.Cond.code ({ cls := "ArcCache", name := "makeRoom", desc := "(I)V" } : Jvm.MethodName) prog_1_method_8_code (4 : Nat) (Option.none : Option Jvm.ClassFile.FieldType)) ∈ lw_all := lw_g (lw_at lw_m1 80 rfl) rfl
theorem q96 : (Jvm.Cond.methodLink "ArcCache" (55 : Nat) ({ cls := "ArcCache", name := "old", desc := "(I)I" } : Jvm.MethodName)) ∈ lw_all := lw_g (lw_at lw_m1 81 rfl) rfl
theorem q97 : (Jvm.Cond.privateMethod ({ cls := "ArcCache", name := "old", desc := "(I)I" } : Jvm.MethodName)) ∈ lw_tbl := lw_at lw_m1 82 rfl
theorem q98 : (Jvm.Cond.instanceMethod ({ cls := "ArcCache", name := "old", desc := "(I)I" } : Jvm.MethodName)) ∈ lw_all := lw_g (lw_at lw_m1 83 rfl) rfl
theorem q99 : (Jvm.Cond.code ({ cls := "ArcCache", name := "old", desc := "(I)I" } : Jvm.MethodName) prog_1_method_6_code (2 : Nat) (Option.some Jvm.ClassFile.FieldType.int)) ∈ lw_all := lw_g (lw_at lw_m1 84 rfl) rfl
theorem q100 : (Jvm.Cond.methodLink "ArcCache" (59 : Nat) ({ cls := "ArcCache", name := "go", desc := "(I)V" } : Jvm.MethodName)) ∈ lw_all := lw_g (lw_at lw_m1 85 rfl) rfl
theorem q101 : (Jvm.Cond.privateMethod ({ cls := "ArcCache", name := "go", desc := "(I)V" } : Jvm.MethodName)) ∈ lw_tbl := lw_at lw_m1 86 rfl
theorem q102 : (Jvm.Cond.instanceMethod ({ cls := "ArcCache", name := "go", desc := "(I)V" } : Jvm.MethodName)) ∈ lw_all := lw_g (lw_at lw_m1 87 rfl) rfl
theorem q103 : (Jvm.Cond.code ({ cls := "ArcCache", name := "go", desc := "(I)V" } : Jvm.MethodName) prog_1_method_7_code (2 : Nat) (Option.none : Option Jvm.ClassFile.FieldType)) ∈ lw_all := lw_g (lw_at lw_m1 88 rfl) rfl
theorem q104 : (Jvm.Cond.methodLink "ArcCache" (73 : Nat) ({ cls := "ArcCache", name := "fresh", desc := "(I)V" } : Jvm.MethodName)) ∈ lw_all := lw_g (lw_at lw_m1 89 rfl) rfl
theorem q105 : (Jvm.Cond.privateMethod ({ cls := "ArcCache", name := "fresh", desc := "(I)V" } : Jvm.MethodName)) ∈ lw_tbl := lw_at lw_m1 90 rfl
theorem q106 : (Jvm.Cond.instanceMethod ({ cls := "ArcCache", name := "fresh", desc := "(I)V" } : Jvm.MethodName)) ∈ lw_all := lw_g (lw_at lw_m1 91 rfl) rfl
theorem q107 : (Jvm.Cond.code ({ cls := "ArcCache", name := "fresh", desc := "(I)V" } : Jvm.MethodName) prog_1_method_11_code (5 : Nat) (Option.none : Option Jvm.ClassFile.FieldType)) ∈ lw_all := lw_g (lw_at lw_m1 92 rfl) rfl
theorem q109 : (Jvm.Cond.instanceMethod ({ cls := "ArcCache", name := "write", desc := "(II)Z" } : Jvm.MethodName)) ∈ lw_all := lw_g (lw_at lw_m1 94 rfl) rfl
theorem q110 : (Jvm.Cond.selects "ArcCache" ({ cls := "ArcCache", name := "write", desc := "(II)Z" } : Jvm.MethodName) ({ cls := "ArcCache", name := "write", desc := "(II)Z" } : Jvm.MethodName)) ∈ lw_all := lw_g (lw_at lw_m1 95 rfl) rfl
theorem q111 : (Jvm.Cond.code ({ cls := "ArcCache", name := "write", desc := "(II)Z" } : Jvm.MethodName) prog_1_method_13_code (3 : Nat) (Option.some Jvm.ClassFile.FieldType.boolean)) ∈ lw_all := lw_g (lw_at lw_m1 96 rfl) rfl
theorem q113 : (Jvm.Cond.instanceMethod ({ cls := "ArcCache", name := "flush", desc := "()I" } : Jvm.MethodName)) ∈ lw_all := lw_g (lw_at lw_m1 98 rfl) rfl
theorem q114 : (Jvm.Cond.selects "ArcCache" ({ cls := "ArcCache", name := "flush", desc := "()I" } : Jvm.MethodName) ({ cls := "ArcCache", name := "flush", desc := "()I" } : Jvm.MethodName)) ∈ lw_all := lw_g (lw_at lw_m1 99 rfl) rfl
theorem q115 : (Jvm.Cond.code ({ cls := "ArcCache", name := "flush", desc := "()I" } : Jvm.MethodName) prog_1_method_14_code (3 : Nat) (Option.some Jvm.ClassFile.FieldType.int)) ∈ lw_all := lw_g (lw_at lw_m1 100 rfl) rfl
theorem q117 : (Jvm.Cond.instanceMethod ({ cls := "ArcCache", name := "whichList", desc := "(I)I" } : Jvm.MethodName)) ∈ lw_all := lw_g (lw_at lw_m1 102 rfl) rfl
theorem q118 : (Jvm.Cond.selects "ArcCache" ({ cls := "ArcCache", name := "whichList", desc := "(I)I" } : Jvm.MethodName) ({ cls := "ArcCache", name := "whichList", desc := "(I)I" } : Jvm.MethodName)) ∈ lw_all := lw_g (lw_at lw_m1 103 rfl) rfl
theorem q119 : (Jvm.Cond.code ({ cls := "ArcCache", name := "whichList", desc := "(I)I" } : Jvm.MethodName) prog_1_method_15_code (2 : Nat) (Option.some Jvm.ClassFile.FieldType.int)) ∈ lw_all := lw_g (lw_at lw_m1 104 rfl) rfl
theorem q121 : (Jvm.Cond.instanceMethod ({ cls := "ArcCache", name := "at", desc := "(II)I" } : Jvm.MethodName)) ∈ lw_all := lw_g (lw_at lw_m1 106 rfl) rfl
theorem q122 : (Jvm.Cond.selects "ArcCache" ({ cls := "ArcCache", name := "at", desc := "(II)I" } : Jvm.MethodName) ({ cls := "ArcCache", name := "at", desc := "(II)I" } : Jvm.MethodName)) ∈ lw_all := lw_g (lw_at lw_m1 107 rfl) rfl
theorem q123 : (Jvm.Cond.code ({ cls := "ArcCache", name := "at", desc := "(II)I" } : Jvm.MethodName) prog_1_method_16_code (5 : Nat) (Option.some Jvm.ClassFile.FieldType.int)) ∈ lw_all := lw_g (lw_at lw_m1 108 rfl) rfl
theorem q125 : (Jvm.Cond.instanceMethod ({ cls := "ArcCache", name := "length", desc := "(I)I" } : Jvm.MethodName)) ∈ lw_all := lw_g (lw_at lw_m1 110 rfl) rfl
theorem q126 : (Jvm.Cond.selects "ArcCache" ({ cls := "ArcCache", name := "length", desc := "(I)I" } : Jvm.MethodName) ({ cls := "ArcCache", name := "length", desc := "(I)I" } : Jvm.MethodName)) ∈ lw_all := lw_g (lw_at lw_m1 111 rfl) rfl
theorem q127 : (Jvm.Cond.code ({ cls := "ArcCache", name := "length", desc := "(I)I" } : Jvm.MethodName) prog_1_method_17_code (2 : Nat) (Option.some Jvm.ClassFile.FieldType.int)) ∈ lw_all := lw_g (lw_at lw_m1 112 rfl) rfl
theorem q129 : (Jvm.Cond.instanceMethod ({ cls := "ArcCache", name := "target", desc := "()I" } : Jvm.MethodName)) ∈ lw_all := lw_g (lw_at lw_m1 114 rfl) rfl
theorem q130 : (Jvm.Cond.selects "ArcCache" ({ cls := "ArcCache", name := "target", desc := "()I" } : Jvm.MethodName) ({ cls := "ArcCache", name := "target", desc := "()I" } : Jvm.MethodName)) ∈ lw_all := lw_g (lw_at lw_m1 115 rfl) rfl
theorem q131 : (Jvm.Cond.code ({ cls := "ArcCache", name := "target", desc := "()I" } : Jvm.MethodName) prog_1_method_18_code (1 : Nat) (Option.some Jvm.ClassFile.FieldType.int)) ∈ lw_all := lw_g (lw_at lw_m1 116 rfl) rfl
theorem q133 : (Jvm.Cond.instanceMethod ({ cls := "ArcCache", name := "hits", desc := "()I" } : Jvm.MethodName)) ∈ lw_all := lw_g (lw_at lw_m1 118 rfl) rfl
theorem q134 : (Jvm.Cond.selects "ArcCache" ({ cls := "ArcCache", name := "hits", desc := "()I" } : Jvm.MethodName) ({ cls := "ArcCache", name := "hits", desc := "()I" } : Jvm.MethodName)) ∈ lw_all := lw_g (lw_at lw_m1 119 rfl) rfl
theorem q135 : (Jvm.Cond.code ({ cls := "ArcCache", name := "hits", desc := "()I" } : Jvm.MethodName) prog_1_method_19_code (1 : Nat) (Option.some Jvm.ClassFile.FieldType.int)) ∈ lw_all := lw_g (lw_at lw_m1 120 rfl) rfl
theorem q137 : (Jvm.Cond.instanceMethod ({ cls := "ArcCache", name := "misses", desc := "()I" } : Jvm.MethodName)) ∈ lw_all := lw_g (lw_at lw_m1 122 rfl) rfl
theorem q138 : (Jvm.Cond.selects "ArcCache" ({ cls := "ArcCache", name := "misses", desc := "()I" } : Jvm.MethodName) ({ cls := "ArcCache", name := "misses", desc := "()I" } : Jvm.MethodName)) ∈ lw_all := lw_g (lw_at lw_m1 123 rfl) rfl
theorem q139 : (Jvm.Cond.code ({ cls := "ArcCache", name := "misses", desc := "()I" } : Jvm.MethodName) prog_1_method_20_code (1 : Nat) (Option.some Jvm.ClassFile.FieldType.int)) ∈ lw_all := lw_g (lw_at lw_m1 124 rfl) rfl
theorem q141 : (Jvm.Cond.instanceMethod ({ cls := "ArcCache", name := "store", desc := "(I)I" } : Jvm.MethodName)) ∈ lw_all := lw_g (lw_at lw_m1 126 rfl) rfl
theorem q142 : (Jvm.Cond.selects "ArcCache" ({ cls := "ArcCache", name := "store", desc := "(I)I" } : Jvm.MethodName) ({ cls := "ArcCache", name := "store", desc := "(I)I" } : Jvm.MethodName)) ∈ lw_all := lw_g (lw_at lw_m1 127 rfl) rfl
theorem q143 : (Jvm.Cond.code ({ cls := "ArcCache", name := "store", desc := "(I)I" } : Jvm.MethodName) prog_1_method_21_code (2 : Nat) (Option.some Jvm.ClassFile.FieldType.int)) ∈ lw_all := lw_g (lw_at lw_m1 128 rfl) rfl
theorem q145 : (Jvm.Cond.instanceMethod ({ cls := "ArcCache", name := "isDirty", desc := "(I)Z" } : Jvm.MethodName)) ∈ lw_all := lw_g (lw_at lw_m1 130 rfl) rfl
theorem q146 : (Jvm.Cond.selects "ArcCache" ({ cls := "ArcCache", name := "isDirty", desc := "(I)Z" } : Jvm.MethodName) ({ cls := "ArcCache", name := "isDirty", desc := "(I)Z" } : Jvm.MethodName)) ∈ lw_all := lw_g (lw_at lw_m1 131 rfl) rfl
theorem q147 : (Jvm.Cond.code ({ cls := "ArcCache", name := "isDirty", desc := "(I)Z" } : Jvm.MethodName) prog_1_method_22_code (2 : Nat) (Option.some Jvm.ClassFile.FieldType.boolean)) ∈ lw_all := lw_g (lw_at lw_m1 132 rfl) rfl
theorem q149 : (Jvm.Cond.instanceMethod ({ cls := "ArcCache", name := "gone", desc := "()I" } : Jvm.MethodName)) ∈ lw_all := lw_g (lw_at lw_m1 134 rfl) rfl
theorem q150 : (Jvm.Cond.selects "ArcCache" ({ cls := "ArcCache", name := "gone", desc := "()I" } : Jvm.MethodName) ({ cls := "ArcCache", name := "gone", desc := "()I" } : Jvm.MethodName)) ∈ lw_all := lw_g (lw_at lw_m1 135 rfl) rfl
theorem q151 : (Jvm.Cond.code ({ cls := "ArcCache", name := "gone", desc := "()I" } : Jvm.MethodName) prog_1_method_23_code (1 : Nat) (Option.some Jvm.ClassFile.FieldType.int)) ∈ lw_all := lw_g (lw_at lw_m1 136 rfl) rfl
theorem in_X1 : ∀ w ∈ wsX10, w ∈ lw_all := lw_in wsX10 [42, 44, 46, 48, 50, 52, 54, 56, 58, 60, 62, 64] (by decide +kernel) (by decide +kernel)
end
section
/-! ArcCacheModel -/
set_option maxRecDepth 100000
def RX2 : String := "ArcCacheModel"
def TX2 : u_T := fun k => match k with
  | 0 => ("ArcCacheModel", "pages", "I", true)
  | 1 => ("ArcCacheModel", "lists", "[I", true)
  | 2 => ("ArcCacheModel", "many", "[I", true)
  | 3 => ("ArcCacheModel", "store", "[I", true)
  | 4 => ("ArcCacheModel", "words", "[I", true)
  | 5 => ("ArcCacheModel", "dirty", "[Z", true)
  | 6 => ("ArcCacheModel", "target", "I", false)
  | 7 => ("ArcCacheModel", "hits", "I", false)
  | 8 => ("ArcCacheModel", "misses", "I", false)
  | _ => ("ArcCacheModel", "gone", "I", false)
def tyX2 : Nat → FieldType := fun k => match k with
  | 0 => .int
  | 1 => .array .int
  | 2 => .array .int
  | 3 => .array .int
  | 4 => .array .int
  | 5 => .array .boolean
  | 6 => .int
  | 7 => .int
  | 8 => .int
  | _ => .int
abbrev wsX20 : List Cond := u_ws RX2 TX2 10
theorem nmX2 : ∀ a, a < 10 → ∀ b, b < 10 → a ≠ b → (TX2 a).2.1 ≠ (TX2 b).2.1 := by decide +kernel
theorem tyX2_ok : ∀ k, k < 10 → parseFieldDescriptor (TX2 k).2.2.1 = some (tyX2 k) := by decide +kernel
abbrev cX2_init : ByteArray := prog_3_method_1_code
def yX2_init : MethodName := ⟨RX2, "<init>", "(I)V"⟩
theorem dX2_init_0 : decode cX2_init 0 = .ok (.aload_n 0, 1) := by decide +kernel
theorem dX2_init_1 : decode cX2_init 1 = .ok (.invokespecial 1, 3) := by decide +kernel
theorem dX2_init_4 : decode cX2_init 4 = .ok (.aload_n 0, 1) := by decide +kernel
theorem dX2_init_5 : decode cX2_init 5 = .ok (.sipush 320, 3) := by decide +kernel
theorem dX2_init_8 : decode cX2_init 8 = .ok (.newarray .int, 2) := by decide +kernel
theorem dX2_init_10 : decode cX2_init 10 = .ok (.putfield 7, 3) := by decide +kernel
theorem dX2_init_13 : decode cX2_init 13 = .ok (.aload_n 0, 1) := by decide +kernel
theorem dX2_init_14 : decode cX2_init 14 = .ok (.iconst 5, 1) := by decide +kernel
theorem dX2_init_15 : decode cX2_init 15 = .ok (.newarray .int, 2) := by decide +kernel
theorem dX2_init_17 : decode cX2_init 17 = .ok (.putfield 13, 3) := by decide +kernel
theorem dX2_init_20 : decode cX2_init 20 = .ok (.aload_n 0, 1) := by decide +kernel
theorem dX2_init_21 : decode cX2_init 21 = .ok (.bipush 64, 2) := by decide +kernel
theorem dX2_init_23 : decode cX2_init 23 = .ok (.newarray .int, 2) := by decide +kernel
theorem dX2_init_25 : decode cX2_init 25 = .ok (.putfield 16, 3) := by decide +kernel
theorem dX2_init_28 : decode cX2_init 28 = .ok (.aload_n 0, 1) := by decide +kernel
theorem dX2_init_29 : decode cX2_init 29 = .ok (.bipush 64, 2) := by decide +kernel
theorem dX2_init_31 : decode cX2_init 31 = .ok (.newarray .int, 2) := by decide +kernel
theorem dX2_init_33 : decode cX2_init 33 = .ok (.putfield 19, 3) := by decide +kernel
theorem dX2_init_36 : decode cX2_init 36 = .ok (.aload_n 0, 1) := by decide +kernel
theorem dX2_init_37 : decode cX2_init 37 = .ok (.bipush 64, 2) := by decide +kernel
theorem dX2_init_39 : decode cX2_init 39 = .ok (.newarray .boolean, 2) := by decide +kernel
theorem dX2_init_41 : decode cX2_init 41 = .ok (.putfield 22, 3) := by decide +kernel
theorem dX2_init_44 : decode cX2_init 44 = .ok (.iload_n 1, 1) := by decide +kernel
theorem dX2_init_45 : decode cX2_init 45 = .ok (.bipush 24, 2) := by decide +kernel
theorem dX2_init_47 : decode cX2_init 47 = .ok (.irem, 1) := by decide +kernel
theorem dX2_init_48 : decode cX2_init 48 = .ok (.istore_n 2, 1) := by decide +kernel
theorem dX2_init_49 : decode cX2_init 49 = .ok (.aload_n 0, 1) := by decide +kernel
theorem dX2_init_50 : decode cX2_init 50 = .ok (.iconst 1, 1) := by decide +kernel
theorem dX2_init_51 : decode cX2_init 51 = .ok (.iload_n 2, 1) := by decide +kernel
theorem dX2_init_52 : decode cX2_init 52 = .ok (.ifCond .ge 10, 3) := by decide +kernel
theorem dX2_init_55 : decode cX2_init 55 = .ok (.iload_n 2, 1) := by decide +kernel
theorem dX2_init_56 : decode cX2_init 56 = .ok (.bipush 24, 2) := by decide +kernel
theorem dX2_init_58 : decode cX2_init 58 = .ok (.iadd, 1) := by decide +kernel
theorem dX2_init_59 : decode cX2_init 59 = .ok (.goto 4, 3) := by decide +kernel
theorem dX2_init_62 : decode cX2_init 62 = .ok (.iload_n 2, 1) := by decide +kernel
theorem dX2_init_63 : decode cX2_init 63 = .ok (.iadd, 1) := by decide +kernel
theorem dX2_init_64 : decode cX2_init 64 = .ok (.putfield 26, 3) := by decide +kernel
theorem dX2_init_67 : decode cX2_init 67 = .ok (.return_, 1) := by decide +kernel
abbrev cX2_init_2 : ByteArray := prog_3_method_2_code
def yX2_init_2 : MethodName := ⟨RX2, "init", "()V"⟩
theorem dX2_init_2_0 : decode cX2_init_2 0 = .ok (.iconst 0, 1) := by decide +kernel
theorem dX2_init_2_1 : decode cX2_init_2 1 = .ok (.istore_n 1, 1) := by decide +kernel
theorem dX2_init_2_2 : decode cX2_init_2 2 = .ok (.iload_n 1, 1) := by decide +kernel
theorem dX2_init_2_3 : decode cX2_init_2 3 = .ok (.iconst 5, 1) := by decide +kernel
theorem dX2_init_2_4 : decode cX2_init_2 4 = .ok (.if_icmp .ge 16, 3) := by decide +kernel
theorem dX2_init_2_7 : decode cX2_init_2 7 = .ok (.aload_n 0, 1) := by decide +kernel
theorem dX2_init_2_8 : decode cX2_init_2 8 = .ok (.getfield 13, 3) := by decide +kernel
theorem dX2_init_2_11 : decode cX2_init_2 11 = .ok (.iload_n 1, 1) := by decide +kernel
theorem dX2_init_2_12 : decode cX2_init_2 12 = .ok (.iconst 0, 1) := by decide +kernel
theorem dX2_init_2_13 : decode cX2_init_2 13 = .ok (.iastore, 1) := by decide +kernel
theorem dX2_init_2_14 : decode cX2_init_2 14 = .ok (.iinc 1 1, 3) := by decide +kernel
theorem dX2_init_2_17 : decode cX2_init_2 17 = .ok (.goto (-15), 3) := by decide +kernel
theorem dX2_init_2_20 : decode cX2_init_2 20 = .ok (.iconst 0, 1) := by decide +kernel
theorem dX2_init_2_21 : decode cX2_init_2 21 = .ok (.istore_n 1, 1) := by decide +kernel
theorem dX2_init_2_22 : decode cX2_init_2 22 = .ok (.iload_n 1, 1) := by decide +kernel
theorem dX2_init_2_23 : decode cX2_init_2 23 = .ok (.bipush 64, 2) := by decide +kernel
theorem dX2_init_2_25 : decode cX2_init_2 25 = .ok (.if_icmp .ge 30, 3) := by decide +kernel
theorem dX2_init_2_28 : decode cX2_init_2 28 = .ok (.aload_n 0, 1) := by decide +kernel
theorem dX2_init_2_29 : decode cX2_init_2 29 = .ok (.getfield 16, 3) := by decide +kernel
theorem dX2_init_2_32 : decode cX2_init_2 32 = .ok (.iload_n 1, 1) := by decide +kernel
theorem dX2_init_2_33 : decode cX2_init_2 33 = .ok (.iconst 0, 1) := by decide +kernel
theorem dX2_init_2_34 : decode cX2_init_2 34 = .ok (.iastore, 1) := by decide +kernel
theorem dX2_init_2_35 : decode cX2_init_2 35 = .ok (.aload_n 0, 1) := by decide +kernel
theorem dX2_init_2_36 : decode cX2_init_2 36 = .ok (.getfield 19, 3) := by decide +kernel
theorem dX2_init_2_39 : decode cX2_init_2 39 = .ok (.iload_n 1, 1) := by decide +kernel
theorem dX2_init_2_40 : decode cX2_init_2 40 = .ok (.iconst 0, 1) := by decide +kernel
theorem dX2_init_2_41 : decode cX2_init_2 41 = .ok (.iastore, 1) := by decide +kernel
theorem dX2_init_2_42 : decode cX2_init_2 42 = .ok (.aload_n 0, 1) := by decide +kernel
theorem dX2_init_2_43 : decode cX2_init_2 43 = .ok (.getfield 22, 3) := by decide +kernel
theorem dX2_init_2_46 : decode cX2_init_2 46 = .ok (.iload_n 1, 1) := by decide +kernel
theorem dX2_init_2_47 : decode cX2_init_2 47 = .ok (.iconst 0, 1) := by decide +kernel
theorem dX2_init_2_48 : decode cX2_init_2 48 = .ok (.bastore, 1) := by decide +kernel
theorem dX2_init_2_49 : decode cX2_init_2 49 = .ok (.iinc 1 1, 3) := by decide +kernel
theorem dX2_init_2_52 : decode cX2_init_2 52 = .ok (.goto (-30), 3) := by decide +kernel
theorem dX2_init_2_55 : decode cX2_init_2 55 = .ok (.aload_n 0, 1) := by decide +kernel
theorem dX2_init_2_56 : decode cX2_init_2 56 = .ok (.iconst 0, 1) := by decide +kernel
theorem dX2_init_2_57 : decode cX2_init_2 57 = .ok (.putfield 30, 3) := by decide +kernel
theorem dX2_init_2_60 : decode cX2_init_2 60 = .ok (.aload_n 0, 1) := by decide +kernel
theorem dX2_init_2_61 : decode cX2_init_2 61 = .ok (.iconst 0, 1) := by decide +kernel
theorem dX2_init_2_62 : decode cX2_init_2 62 = .ok (.putfield 33, 3) := by decide +kernel
theorem dX2_init_2_65 : decode cX2_init_2 65 = .ok (.aload_n 0, 1) := by decide +kernel
theorem dX2_init_2_66 : decode cX2_init_2 66 = .ok (.iconst 0, 1) := by decide +kernel
theorem dX2_init_2_67 : decode cX2_init_2 67 = .ok (.putfield 36, 3) := by decide +kernel
theorem dX2_init_2_70 : decode cX2_init_2 70 = .ok (.aload_n 0, 1) := by decide +kernel
theorem dX2_init_2_71 : decode cX2_init_2 71 = .ok (.iconst 0, 1) := by decide +kernel
theorem dX2_init_2_72 : decode cX2_init_2 72 = .ok (.putfield 39, 3) := by decide +kernel
theorem dX2_init_2_75 : decode cX2_init_2 75 = .ok (.return_, 1) := by decide +kernel
abbrev cX2_whichList : ByteArray := prog_3_method_4_code
def yX2_whichList : MethodName := ⟨RX2, "whichList", "(I)I"⟩
theorem dX2_whichList_0 : decode cX2_whichList 0 = .ok (.iconst 0, 1) := by decide +kernel
theorem dX2_whichList_1 : decode cX2_whichList 1 = .ok (.istore_n 2, 1) := by decide +kernel
theorem dX2_whichList_2 : decode cX2_whichList 2 = .ok (.iconst 1, 1) := by decide +kernel
theorem dX2_whichList_3 : decode cX2_whichList 3 = .ok (.istore_n 3, 1) := by decide +kernel
theorem dX2_whichList_4 : decode cX2_whichList 4 = .ok (.iload_n 3, 1) := by decide +kernel
theorem dX2_whichList_5 : decode cX2_whichList 5 = .ok (.iconst 5, 1) := by decide +kernel
theorem dX2_whichList_6 : decode cX2_whichList 6 = .ok (.if_icmp .ge 51, 3) := by decide +kernel
theorem dX2_whichList_9 : decode cX2_whichList 9 = .ok (.iconst 0, 1) := by decide +kernel
theorem dX2_whichList_10 : decode cX2_whichList 10 = .ok (.istore 4, 2) := by decide +kernel
theorem dX2_whichList_12 : decode cX2_whichList 12 = .ok (.iload 4, 2) := by decide +kernel
theorem dX2_whichList_14 : decode cX2_whichList 14 = .ok (.aload_n 0, 1) := by decide +kernel
theorem dX2_whichList_15 : decode cX2_whichList 15 = .ok (.getfield 13, 3) := by decide +kernel
theorem dX2_whichList_18 : decode cX2_whichList 18 = .ok (.iload_n 3, 1) := by decide +kernel
theorem dX2_whichList_19 : decode cX2_whichList 19 = .ok (.iaload, 1) := by decide +kernel
theorem dX2_whichList_20 : decode cX2_whichList 20 = .ok (.if_icmp .ge 31, 3) := by decide +kernel
theorem dX2_whichList_23 : decode cX2_whichList 23 = .ok (.aload_n 0, 1) := by decide +kernel
theorem dX2_whichList_24 : decode cX2_whichList 24 = .ok (.getfield 7, 3) := by decide +kernel
theorem dX2_whichList_27 : decode cX2_whichList 27 = .ok (.bipush 64, 2) := by decide +kernel
theorem dX2_whichList_29 : decode cX2_whichList 29 = .ok (.iload_n 3, 1) := by decide +kernel
theorem dX2_whichList_30 : decode cX2_whichList 30 = .ok (.imul, 1) := by decide +kernel
theorem dX2_whichList_31 : decode cX2_whichList 31 = .ok (.iload 4, 2) := by decide +kernel
theorem dX2_whichList_33 : decode cX2_whichList 33 = .ok (.iadd, 1) := by decide +kernel
theorem dX2_whichList_34 : decode cX2_whichList 34 = .ok (.iaload, 1) := by decide +kernel
theorem dX2_whichList_35 : decode cX2_whichList 35 = .ok (.iload_n 1, 1) := by decide +kernel
theorem dX2_whichList_36 : decode cX2_whichList 36 = .ok (.if_icmp .ne 7, 3) := by decide +kernel
theorem dX2_whichList_39 : decode cX2_whichList 39 = .ok (.iload_n 3, 1) := by decide +kernel
theorem dX2_whichList_40 : decode cX2_whichList 40 = .ok (.goto 4, 3) := by decide +kernel
theorem dX2_whichList_43 : decode cX2_whichList 43 = .ok (.iload_n 2, 1) := by decide +kernel
theorem dX2_whichList_44 : decode cX2_whichList 44 = .ok (.istore_n 2, 1) := by decide +kernel
theorem dX2_whichList_45 : decode cX2_whichList 45 = .ok (.iinc 4 1, 3) := by decide +kernel
theorem dX2_whichList_48 : decode cX2_whichList 48 = .ok (.goto (-36), 3) := by decide +kernel
theorem dX2_whichList_51 : decode cX2_whichList 51 = .ok (.iinc 3 1, 3) := by decide +kernel
theorem dX2_whichList_54 : decode cX2_whichList 54 = .ok (.goto (-50), 3) := by decide +kernel
theorem dX2_whichList_57 : decode cX2_whichList 57 = .ok (.iload_n 2, 1) := by decide +kernel
theorem dX2_whichList_58 : decode cX2_whichList 58 = .ok (.ireturn, 1) := by decide +kernel
abbrev cX2_read : ByteArray := prog_3_method_13_code
def yX2_read : MethodName := ⟨RX2, "read", "(I)I"⟩
theorem dX2_read_0 : decode cX2_read 0 = .ok (.iload_n 1, 1) := by decide +kernel
theorem dX2_read_1 : decode cX2_read 1 = .ok (.invokestatic 69, 3) := by decide +kernel
theorem dX2_read_4 : decode cX2_read 4 = .ok (.ifCond .ne 5, 3) := by decide +kernel
theorem dX2_read_7 : decode cX2_read 7 = .ok (.iconst 0, 1) := by decide +kernel
theorem dX2_read_8 : decode cX2_read 8 = .ok (.ireturn, 1) := by decide +kernel
theorem dX2_read_9 : decode cX2_read 9 = .ok (.aload_n 0, 1) := by decide +kernel
theorem dX2_read_10 : decode cX2_read 10 = .ok (.iload_n 1, 1) := by decide +kernel
theorem dX2_read_11 : decode cX2_read 11 = .ok (.invokevirtual 73, 3) := by decide +kernel
theorem dX2_read_14 : decode cX2_read 14 = .ok (.aload_n 0, 1) := by decide +kernel
theorem dX2_read_15 : decode cX2_read 15 = .ok (.getfield 19, 3) := by decide +kernel
theorem dX2_read_18 : decode cX2_read 18 = .ok (.iload_n 1, 1) := by decide +kernel
theorem dX2_read_19 : decode cX2_read 19 = .ok (.iaload, 1) := by decide +kernel
theorem dX2_read_20 : decode cX2_read 20 = .ok (.ireturn, 1) := by decide +kernel
abbrev cX2_isAddress : ByteArray := prog_3_method_3_code
def yX2_isAddress : MethodName := ⟨RX2, "isAddress", "(I)Z"⟩
theorem dX2_isAddress_0 : decode cX2_isAddress 0 = .ok (.iload_n 0, 1) := by decide +kernel
theorem dX2_isAddress_1 : decode cX2_isAddress 1 = .ok (.ifCond .lt 13, 3) := by decide +kernel
theorem dX2_isAddress_4 : decode cX2_isAddress 4 = .ok (.iload_n 0, 1) := by decide +kernel
theorem dX2_isAddress_5 : decode cX2_isAddress 5 = .ok (.bipush 64, 2) := by decide +kernel
theorem dX2_isAddress_7 : decode cX2_isAddress 7 = .ok (.if_icmp .ge 7, 3) := by decide +kernel
theorem dX2_isAddress_10 : decode cX2_isAddress 10 = .ok (.iconst 1, 1) := by decide +kernel
theorem dX2_isAddress_11 : decode cX2_isAddress 11 = .ok (.goto 4, 3) := by decide +kernel
theorem dX2_isAddress_14 : decode cX2_isAddress 14 = .ok (.iconst 0, 1) := by decide +kernel
theorem dX2_isAddress_15 : decode cX2_isAddress 15 = .ok (.ireturn, 1) := by decide +kernel
abbrev cX2_request : ByteArray := prog_3_method_12_code
def yX2_request : MethodName := ⟨RX2, "request", "(I)V"⟩
theorem dX2_request_0 : decode cX2_request 0 = .ok (.aload_n 0, 1) := by decide +kernel
theorem dX2_request_1 : decode cX2_request 1 = .ok (.iload_n 1, 1) := by decide +kernel
theorem dX2_request_2 : decode cX2_request 2 = .ok (.invokevirtual 42, 3) := by decide +kernel
theorem dX2_request_5 : decode cX2_request 5 = .ok (.istore_n 2, 1) := by decide +kernel
theorem dX2_request_6 : decode cX2_request 6 = .ok (.iload_n 2, 1) := by decide +kernel
theorem dX2_request_7 : decode cX2_request 7 = .ok (.iconst 1, 1) := by decide +kernel
theorem dX2_request_8 : decode cX2_request 8 = .ok (.if_icmp .eq 8, 3) := by decide +kernel
theorem dX2_request_11 : decode cX2_request 11 = .ok (.iload_n 2, 1) := by decide +kernel
theorem dX2_request_12 : decode cX2_request 12 = .ok (.iconst 2, 1) := by decide +kernel
theorem dX2_request_13 : decode cX2_request 13 = .ok (.if_icmp .ne 20, 3) := by decide +kernel
theorem dX2_request_16 : decode cX2_request 16 = .ok (.aload_n 0, 1) := by decide +kernel
theorem dX2_request_17 : decode cX2_request 17 = .ok (.dup, 1) := by decide +kernel
theorem dX2_request_18 : decode cX2_request 18 = .ok (.getfield 33, 3) := by decide +kernel
theorem dX2_request_21 : decode cX2_request 21 = .ok (.iconst 1, 1) := by decide +kernel
theorem dX2_request_22 : decode cX2_request 22 = .ok (.iadd, 1) := by decide +kernel
theorem dX2_request_23 : decode cX2_request 23 = .ok (.putfield 33, 3) := by decide +kernel
theorem dX2_request_26 : decode cX2_request 26 = .ok (.aload_n 0, 1) := by decide +kernel
theorem dX2_request_27 : decode cX2_request 27 = .ok (.iload_n 1, 1) := by decide +kernel
theorem dX2_request_28 : decode cX2_request 28 = .ok (.iconst 2, 1) := by decide +kernel
theorem dX2_request_29 : decode cX2_request 29 = .ok (.invokevirtual 59, 3) := by decide +kernel
theorem dX2_request_32 : decode cX2_request 32 = .ok (.return_, 1) := by decide +kernel
theorem dX2_request_33 : decode cX2_request 33 = .ok (.aload_n 0, 1) := by decide +kernel
theorem dX2_request_34 : decode cX2_request 34 = .ok (.dup, 1) := by decide +kernel
theorem dX2_request_35 : decode cX2_request 35 = .ok (.getfield 36, 3) := by decide +kernel
theorem dX2_request_38 : decode cX2_request 38 = .ok (.iconst 1, 1) := by decide +kernel
theorem dX2_request_39 : decode cX2_request 39 = .ok (.iadd, 1) := by decide +kernel
theorem dX2_request_40 : decode cX2_request 40 = .ok (.putfield 36, 3) := by decide +kernel
theorem dX2_request_43 : decode cX2_request 43 = .ok (.iload_n 2, 1) := by decide +kernel
theorem dX2_request_44 : decode cX2_request 44 = .ok (.iconst 3, 1) := by decide +kernel
theorem dX2_request_45 : decode cX2_request 45 = .ok (.if_icmp .ne 65, 3) := by decide +kernel
theorem dX2_request_48 : decode cX2_request 48 = .ok (.aload_n 0, 1) := by decide +kernel
theorem dX2_request_49 : decode cX2_request 49 = .ok (.getfield 13, 3) := by decide +kernel
theorem dX2_request_52 : decode cX2_request 52 = .ok (.iconst 4, 1) := by decide +kernel
theorem dX2_request_53 : decode cX2_request 53 = .ok (.iaload, 1) := by decide +kernel
theorem dX2_request_54 : decode cX2_request 54 = .ok (.aload_n 0, 1) := by decide +kernel
theorem dX2_request_55 : decode cX2_request 55 = .ok (.getfield 13, 3) := by decide +kernel
theorem dX2_request_58 : decode cX2_request 58 = .ok (.iconst 3, 1) := by decide +kernel
theorem dX2_request_59 : decode cX2_request 59 = .ok (.iaload, 1) := by decide +kernel
theorem dX2_request_60 : decode cX2_request 60 = .ok (.idiv, 1) := by decide +kernel
theorem dX2_request_61 : decode cX2_request 61 = .ok (.istore_n 3, 1) := by decide +kernel
theorem dX2_request_62 : decode cX2_request 62 = .ok (.aload_n 0, 1) := by decide +kernel
theorem dX2_request_63 : decode cX2_request 63 = .ok (.dup, 1) := by decide +kernel
theorem dX2_request_64 : decode cX2_request 64 = .ok (.getfield 30, 3) := by decide +kernel
theorem dX2_request_67 : decode cX2_request 67 = .ok (.iload_n 3, 1) := by decide +kernel
theorem dX2_request_68 : decode cX2_request 68 = .ok (.iconst 1, 1) := by decide +kernel
theorem dX2_request_69 : decode cX2_request 69 = .ok (.if_icmp .ge 7, 3) := by decide +kernel
theorem dX2_request_72 : decode cX2_request 72 = .ok (.iconst 1, 1) := by decide +kernel
theorem dX2_request_73 : decode cX2_request 73 = .ok (.goto 4, 3) := by decide +kernel
theorem dX2_request_76 : decode cX2_request 76 = .ok (.iload_n 3, 1) := by decide +kernel
theorem dX2_request_77 : decode cX2_request 77 = .ok (.iadd, 1) := by decide +kernel
theorem dX2_request_78 : decode cX2_request 78 = .ok (.putfield 30, 3) := by decide +kernel
theorem dX2_request_81 : decode cX2_request 81 = .ok (.aload_n 0, 1) := by decide +kernel
theorem dX2_request_82 : decode cX2_request 82 = .ok (.aload_n 0, 1) := by decide +kernel
theorem dX2_request_83 : decode cX2_request 83 = .ok (.getfield 30, 3) := by decide +kernel
theorem dX2_request_86 : decode cX2_request 86 = .ok (.aload_n 0, 1) := by decide +kernel
theorem dX2_request_87 : decode cX2_request 87 = .ok (.getfield 26, 3) := by decide +kernel
theorem dX2_request_90 : decode cX2_request 90 = .ok (.if_icmp .le 10, 3) := by decide +kernel
theorem dX2_request_93 : decode cX2_request 93 = .ok (.aload_n 0, 1) := by decide +kernel
theorem dX2_request_94 : decode cX2_request 94 = .ok (.getfield 26, 3) := by decide +kernel
theorem dX2_request_97 : decode cX2_request 97 = .ok (.goto 7, 3) := by decide +kernel
theorem dX2_request_100 : decode cX2_request 100 = .ok (.aload_n 0, 1) := by decide +kernel
theorem dX2_request_101 : decode cX2_request 101 = .ok (.getfield 30, 3) := by decide +kernel
theorem dX2_request_104 : decode cX2_request 104 = .ok (.putfield 30, 3) := by decide +kernel
theorem dX2_request_107 : decode cX2_request 107 = .ok (.goto 60, 3) := by decide +kernel
theorem dX2_request_110 : decode cX2_request 110 = .ok (.iload_n 2, 1) := by decide +kernel
theorem dX2_request_111 : decode cX2_request 111 = .ok (.iconst 4, 1) := by decide +kernel
theorem dX2_request_112 : decode cX2_request 112 = .ok (.if_icmp .ne 55, 3) := by decide +kernel
theorem dX2_request_115 : decode cX2_request 115 = .ok (.aload_n 0, 1) := by decide +kernel
theorem dX2_request_116 : decode cX2_request 116 = .ok (.getfield 13, 3) := by decide +kernel
theorem dX2_request_119 : decode cX2_request 119 = .ok (.iconst 3, 1) := by decide +kernel
theorem dX2_request_120 : decode cX2_request 120 = .ok (.iaload, 1) := by decide +kernel
theorem dX2_request_121 : decode cX2_request 121 = .ok (.aload_n 0, 1) := by decide +kernel
theorem dX2_request_122 : decode cX2_request 122 = .ok (.getfield 13, 3) := by decide +kernel
theorem dX2_request_125 : decode cX2_request 125 = .ok (.iconst 4, 1) := by decide +kernel
theorem dX2_request_126 : decode cX2_request 126 = .ok (.iaload, 1) := by decide +kernel
theorem dX2_request_127 : decode cX2_request 127 = .ok (.idiv, 1) := by decide +kernel
theorem dX2_request_128 : decode cX2_request 128 = .ok (.istore_n 3, 1) := by decide +kernel
theorem dX2_request_129 : decode cX2_request 129 = .ok (.aload_n 0, 1) := by decide +kernel
theorem dX2_request_130 : decode cX2_request 130 = .ok (.dup, 1) := by decide +kernel
theorem dX2_request_131 : decode cX2_request 131 = .ok (.getfield 30, 3) := by decide +kernel
theorem dX2_request_134 : decode cX2_request 134 = .ok (.iload_n 3, 1) := by decide +kernel
theorem dX2_request_135 : decode cX2_request 135 = .ok (.iconst 1, 1) := by decide +kernel
theorem dX2_request_136 : decode cX2_request 136 = .ok (.if_icmp .ge 7, 3) := by decide +kernel
theorem dX2_request_139 : decode cX2_request 139 = .ok (.iconst 1, 1) := by decide +kernel
theorem dX2_request_140 : decode cX2_request 140 = .ok (.goto 4, 3) := by decide +kernel
theorem dX2_request_143 : decode cX2_request 143 = .ok (.iload_n 3, 1) := by decide +kernel
theorem dX2_request_144 : decode cX2_request 144 = .ok (.isub, 1) := by decide +kernel
theorem dX2_request_145 : decode cX2_request 145 = .ok (.putfield 30, 3) := by decide +kernel
theorem dX2_request_148 : decode cX2_request 148 = .ok (.aload_n 0, 1) := by decide +kernel
theorem dX2_request_149 : decode cX2_request 149 = .ok (.aload_n 0, 1) := by decide +kernel
theorem dX2_request_150 : decode cX2_request 150 = .ok (.getfield 30, 3) := by decide +kernel
theorem dX2_request_153 : decode cX2_request 153 = .ok (.ifCond .ge 7, 3) := by decide +kernel
theorem dX2_request_156 : decode cX2_request 156 = .ok (.iconst 0, 1) := by decide +kernel
theorem dX2_request_157 : decode cX2_request 157 = .ok (.goto 7, 3) := by decide +kernel
theorem dX2_request_160 : decode cX2_request 160 = .ok (.aload_n 0, 1) := by decide +kernel
theorem dX2_request_161 : decode cX2_request 161 = .ok (.getfield 30, 3) := by decide +kernel
theorem dX2_request_164 : decode cX2_request 164 = .ok (.putfield 30, 3) := by decide +kernel
theorem dX2_request_167 : decode cX2_request 167 = .ok (.iload_n 2, 1) := by decide +kernel
theorem dX2_request_168 : decode cX2_request 168 = .ok (.ifCond .ne 11, 3) := by decide +kernel
theorem dX2_request_171 : decode cX2_request 171 = .ok (.aload_n 0, 1) := by decide +kernel
theorem dX2_request_172 : decode cX2_request 172 = .ok (.iload_n 1, 1) := by decide +kernel
theorem dX2_request_173 : decode cX2_request 173 = .ok (.invokevirtual 66, 3) := by decide +kernel
theorem dX2_request_176 : decode cX2_request 176 = .ok (.goto 14, 3) := by decide +kernel
theorem dX2_request_179 : decode cX2_request 179 = .ok (.aload_n 0, 1) := by decide +kernel
theorem dX2_request_180 : decode cX2_request 180 = .ok (.iload_n 1, 1) := by decide +kernel
theorem dX2_request_181 : decode cX2_request 181 = .ok (.invokevirtual 63, 3) := by decide +kernel
theorem dX2_request_184 : decode cX2_request 184 = .ok (.aload_n 0, 1) := by decide +kernel
theorem dX2_request_185 : decode cX2_request 185 = .ok (.iload_n 1, 1) := by decide +kernel
theorem dX2_request_186 : decode cX2_request 186 = .ok (.iconst 2, 1) := by decide +kernel
theorem dX2_request_187 : decode cX2_request 187 = .ok (.invokevirtual 59, 3) := by decide +kernel
theorem dX2_request_190 : decode cX2_request 190 = .ok (.aload_n 0, 1) := by decide +kernel
theorem dX2_request_191 : decode cX2_request 191 = .ok (.getfield 19, 3) := by decide +kernel
theorem dX2_request_194 : decode cX2_request 194 = .ok (.iload_n 1, 1) := by decide +kernel
theorem dX2_request_195 : decode cX2_request 195 = .ok (.aload_n 0, 1) := by decide +kernel
theorem dX2_request_196 : decode cX2_request 196 = .ok (.getfield 16, 3) := by decide +kernel
theorem dX2_request_199 : decode cX2_request 199 = .ok (.iload_n 1, 1) := by decide +kernel
theorem dX2_request_200 : decode cX2_request 200 = .ok (.iaload, 1) := by decide +kernel
theorem dX2_request_201 : decode cX2_request 201 = .ok (.iastore, 1) := by decide +kernel
theorem dX2_request_202 : decode cX2_request 202 = .ok (.aload_n 0, 1) := by decide +kernel
theorem dX2_request_203 : decode cX2_request 203 = .ok (.getfield 22, 3) := by decide +kernel
theorem dX2_request_206 : decode cX2_request 206 = .ok (.iload_n 1, 1) := by decide +kernel
theorem dX2_request_207 : decode cX2_request 207 = .ok (.iconst 0, 1) := by decide +kernel
theorem dX2_request_208 : decode cX2_request 208 = .ok (.bastore, 1) := by decide +kernel
theorem dX2_request_209 : decode cX2_request 209 = .ok (.return_, 1) := by decide +kernel
abbrev cX2_come : ByteArray := prog_3_method_6_code
def yX2_come : MethodName := ⟨RX2, "come", "(II)V"⟩
theorem dX2_come_0 : decode cX2_come 0 = .ok (.aload_n 0, 1) := by decide +kernel
theorem dX2_come_1 : decode cX2_come 1 = .ok (.iload_n 1, 1) := by decide +kernel
theorem dX2_come_2 : decode cX2_come 2 = .ok (.invokevirtual 46, 3) := by decide +kernel
theorem dX2_come_5 : decode cX2_come 5 = .ok (.bipush 64, 2) := by decide +kernel
theorem dX2_come_7 : decode cX2_come 7 = .ok (.iload_n 2, 1) := by decide +kernel
theorem dX2_come_8 : decode cX2_come 8 = .ok (.imul, 1) := by decide +kernel
theorem dX2_come_9 : decode cX2_come 9 = .ok (.aload_n 0, 1) := by decide +kernel
theorem dX2_come_10 : decode cX2_come 10 = .ok (.getfield 13, 3) := by decide +kernel
theorem dX2_come_13 : decode cX2_come 13 = .ok (.iload_n 2, 1) := by decide +kernel
theorem dX2_come_14 : decode cX2_come 14 = .ok (.iaload, 1) := by decide +kernel
theorem dX2_come_15 : decode cX2_come 15 = .ok (.iadd, 1) := by decide +kernel
theorem dX2_come_16 : decode cX2_come 16 = .ok (.istore_n 3, 1) := by decide +kernel
theorem dX2_come_17 : decode cX2_come 17 = .ok (.iload_n 3, 1) := by decide +kernel
theorem dX2_come_18 : decode cX2_come 18 = .ok (.bipush 64, 2) := by decide +kernel
theorem dX2_come_20 : decode cX2_come 20 = .ok (.iload_n 2, 1) := by decide +kernel
theorem dX2_come_21 : decode cX2_come 21 = .ok (.imul, 1) := by decide +kernel
theorem dX2_come_22 : decode cX2_come 22 = .ok (.if_icmp .le 23, 3) := by decide +kernel
theorem dX2_come_25 : decode cX2_come 25 = .ok (.aload_n 0, 1) := by decide +kernel
theorem dX2_come_26 : decode cX2_come 26 = .ok (.getfield 7, 3) := by decide +kernel
theorem dX2_come_29 : decode cX2_come 29 = .ok (.iload_n 3, 1) := by decide +kernel
theorem dX2_come_30 : decode cX2_come 30 = .ok (.aload_n 0, 1) := by decide +kernel
theorem dX2_come_31 : decode cX2_come 31 = .ok (.getfield 7, 3) := by decide +kernel
theorem dX2_come_34 : decode cX2_come 34 = .ok (.iload_n 3, 1) := by decide +kernel
theorem dX2_come_35 : decode cX2_come 35 = .ok (.iconst 1, 1) := by decide +kernel
theorem dX2_come_36 : decode cX2_come 36 = .ok (.isub, 1) := by decide +kernel
theorem dX2_come_37 : decode cX2_come 37 = .ok (.iaload, 1) := by decide +kernel
theorem dX2_come_38 : decode cX2_come 38 = .ok (.iastore, 1) := by decide +kernel
theorem dX2_come_39 : decode cX2_come 39 = .ok (.iinc 3 (-1), 3) := by decide +kernel
theorem dX2_come_42 : decode cX2_come 42 = .ok (.goto (-25), 3) := by decide +kernel
theorem dX2_come_45 : decode cX2_come 45 = .ok (.aload_n 0, 1) := by decide +kernel
theorem dX2_come_46 : decode cX2_come 46 = .ok (.getfield 7, 3) := by decide +kernel
theorem dX2_come_49 : decode cX2_come 49 = .ok (.bipush 64, 2) := by decide +kernel
theorem dX2_come_51 : decode cX2_come 51 = .ok (.iload_n 2, 1) := by decide +kernel
theorem dX2_come_52 : decode cX2_come 52 = .ok (.imul, 1) := by decide +kernel
theorem dX2_come_53 : decode cX2_come 53 = .ok (.iload_n 1, 1) := by decide +kernel
theorem dX2_come_54 : decode cX2_come 54 = .ok (.iastore, 1) := by decide +kernel
theorem dX2_come_55 : decode cX2_come 55 = .ok (.aload_n 0, 1) := by decide +kernel
theorem dX2_come_56 : decode cX2_come 56 = .ok (.getfield 13, 3) := by decide +kernel
theorem dX2_come_59 : decode cX2_come 59 = .ok (.iload_n 2, 1) := by decide +kernel
theorem dX2_come_60 : decode cX2_come 60 = .ok (.dup2, 1) := by decide +kernel
theorem dX2_come_61 : decode cX2_come 61 = .ok (.iaload, 1) := by decide +kernel
theorem dX2_come_62 : decode cX2_come 62 = .ok (.iconst 1, 1) := by decide +kernel
theorem dX2_come_63 : decode cX2_come 63 = .ok (.iadd, 1) := by decide +kernel
theorem dX2_come_64 : decode cX2_come 64 = .ok (.iastore, 1) := by decide +kernel
theorem dX2_come_65 : decode cX2_come 65 = .ok (.return_, 1) := by decide +kernel
abbrev cX2_leave : ByteArray := prog_3_method_5_code
def yX2_leave : MethodName := ⟨RX2, "leave", "(I)V"⟩
theorem dX2_leave_0 : decode cX2_leave 0 = .ok (.aload_n 0, 1) := by decide +kernel
theorem dX2_leave_1 : decode cX2_leave 1 = .ok (.iload_n 1, 1) := by decide +kernel
theorem dX2_leave_2 : decode cX2_leave 2 = .ok (.invokevirtual 42, 3) := by decide +kernel
theorem dX2_leave_5 : decode cX2_leave 5 = .ok (.istore_n 2, 1) := by decide +kernel
theorem dX2_leave_6 : decode cX2_leave 6 = .ok (.iload_n 2, 1) := by decide +kernel
theorem dX2_leave_7 : decode cX2_leave 7 = .ok (.ifCond .le 69, 3) := by decide +kernel
theorem dX2_leave_10 : decode cX2_leave 10 = .ok (.bipush 64, 2) := by decide +kernel
theorem dX2_leave_12 : decode cX2_leave 12 = .ok (.iload_n 2, 1) := by decide +kernel
theorem dX2_leave_13 : decode cX2_leave 13 = .ok (.imul, 1) := by decide +kernel
theorem dX2_leave_14 : decode cX2_leave 14 = .ok (.istore_n 3, 1) := by decide +kernel
theorem dX2_leave_15 : decode cX2_leave 15 = .ok (.aload_n 0, 1) := by decide +kernel
theorem dX2_leave_16 : decode cX2_leave 16 = .ok (.getfield 7, 3) := by decide +kernel
theorem dX2_leave_19 : decode cX2_leave 19 = .ok (.iload_n 3, 1) := by decide +kernel
theorem dX2_leave_20 : decode cX2_leave 20 = .ok (.iaload, 1) := by decide +kernel
theorem dX2_leave_21 : decode cX2_leave 21 = .ok (.iload_n 1, 1) := by decide +kernel
theorem dX2_leave_22 : decode cX2_leave 22 = .ok (.if_icmp .eq 9, 3) := by decide +kernel
theorem dX2_leave_25 : decode cX2_leave 25 = .ok (.iinc 3 1, 3) := by decide +kernel
theorem dX2_leave_28 : decode cX2_leave 28 = .ok (.goto (-13), 3) := by decide +kernel
theorem dX2_leave_31 : decode cX2_leave 31 = .ok (.aload_n 0, 1) := by decide +kernel
theorem dX2_leave_32 : decode cX2_leave 32 = .ok (.getfield 13, 3) := by decide +kernel
theorem dX2_leave_35 : decode cX2_leave 35 = .ok (.iload_n 2, 1) := by decide +kernel
theorem dX2_leave_36 : decode cX2_leave 36 = .ok (.dup2, 1) := by decide +kernel
theorem dX2_leave_37 : decode cX2_leave 37 = .ok (.iaload, 1) := by decide +kernel
theorem dX2_leave_38 : decode cX2_leave 38 = .ok (.iconst 1, 1) := by decide +kernel
theorem dX2_leave_39 : decode cX2_leave 39 = .ok (.isub, 1) := by decide +kernel
theorem dX2_leave_40 : decode cX2_leave 40 = .ok (.iastore, 1) := by decide +kernel
theorem dX2_leave_41 : decode cX2_leave 41 = .ok (.iload_n 3, 1) := by decide +kernel
theorem dX2_leave_42 : decode cX2_leave 42 = .ok (.bipush 64, 2) := by decide +kernel
theorem dX2_leave_44 : decode cX2_leave 44 = .ok (.iload_n 2, 1) := by decide +kernel
theorem dX2_leave_45 : decode cX2_leave 45 = .ok (.imul, 1) := by decide +kernel
theorem dX2_leave_46 : decode cX2_leave 46 = .ok (.aload_n 0, 1) := by decide +kernel
theorem dX2_leave_47 : decode cX2_leave 47 = .ok (.getfield 13, 3) := by decide +kernel
theorem dX2_leave_50 : decode cX2_leave 50 = .ok (.iload_n 2, 1) := by decide +kernel
theorem dX2_leave_51 : decode cX2_leave 51 = .ok (.iaload, 1) := by decide +kernel
theorem dX2_leave_52 : decode cX2_leave 52 = .ok (.iadd, 1) := by decide +kernel
theorem dX2_leave_53 : decode cX2_leave 53 = .ok (.if_icmp .ge 23, 3) := by decide +kernel
theorem dX2_leave_56 : decode cX2_leave 56 = .ok (.aload_n 0, 1) := by decide +kernel
theorem dX2_leave_57 : decode cX2_leave 57 = .ok (.getfield 7, 3) := by decide +kernel
theorem dX2_leave_60 : decode cX2_leave 60 = .ok (.iload_n 3, 1) := by decide +kernel
theorem dX2_leave_61 : decode cX2_leave 61 = .ok (.aload_n 0, 1) := by decide +kernel
theorem dX2_leave_62 : decode cX2_leave 62 = .ok (.getfield 7, 3) := by decide +kernel
theorem dX2_leave_65 : decode cX2_leave 65 = .ok (.iload_n 3, 1) := by decide +kernel
theorem dX2_leave_66 : decode cX2_leave 66 = .ok (.iconst 1, 1) := by decide +kernel
theorem dX2_leave_67 : decode cX2_leave 67 = .ok (.iadd, 1) := by decide +kernel
theorem dX2_leave_68 : decode cX2_leave 68 = .ok (.iaload, 1) := by decide +kernel
theorem dX2_leave_69 : decode cX2_leave 69 = .ok (.iastore, 1) := by decide +kernel
theorem dX2_leave_70 : decode cX2_leave 70 = .ok (.iinc 3 1, 3) := by decide +kernel
theorem dX2_leave_73 : decode cX2_leave 73 = .ok (.goto (-32), 3) := by decide +kernel
theorem dX2_leave_76 : decode cX2_leave 76 = .ok (.return_, 1) := by decide +kernel
abbrev cX2_comeNew : ByteArray := prog_3_method_11_code
def yX2_comeNew : MethodName := ⟨RX2, "comeNew", "(I)V"⟩
theorem dX2_comeNew_0 : decode cX2_comeNew 0 = .ok (.aload_n 0, 1) := by decide +kernel
theorem dX2_comeNew_1 : decode cX2_comeNew 1 = .ok (.getfield 13, 3) := by decide +kernel
theorem dX2_comeNew_4 : decode cX2_comeNew 4 = .ok (.iconst 1, 1) := by decide +kernel
theorem dX2_comeNew_5 : decode cX2_comeNew 5 = .ok (.iaload, 1) := by decide +kernel
theorem dX2_comeNew_6 : decode cX2_comeNew 6 = .ok (.aload_n 0, 1) := by decide +kernel
theorem dX2_comeNew_7 : decode cX2_comeNew 7 = .ok (.getfield 13, 3) := by decide +kernel
theorem dX2_comeNew_10 : decode cX2_comeNew 10 = .ok (.iconst 3, 1) := by decide +kernel
theorem dX2_comeNew_11 : decode cX2_comeNew 11 = .ok (.iaload, 1) := by decide +kernel
theorem dX2_comeNew_12 : decode cX2_comeNew 12 = .ok (.iadd, 1) := by decide +kernel
theorem dX2_comeNew_13 : decode cX2_comeNew 13 = .ok (.aload_n 0, 1) := by decide +kernel
theorem dX2_comeNew_14 : decode cX2_comeNew 14 = .ok (.getfield 26, 3) := by decide +kernel
theorem dX2_comeNew_17 : decode cX2_comeNew 17 = .ok (.if_icmp .ne 54, 3) := by decide +kernel
theorem dX2_comeNew_20 : decode cX2_comeNew 20 = .ok (.aload_n 0, 1) := by decide +kernel
theorem dX2_comeNew_21 : decode cX2_comeNew 21 = .ok (.getfield 13, 3) := by decide +kernel
theorem dX2_comeNew_24 : decode cX2_comeNew 24 = .ok (.iconst 1, 1) := by decide +kernel
theorem dX2_comeNew_25 : decode cX2_comeNew 25 = .ok (.iaload, 1) := by decide +kernel
theorem dX2_comeNew_26 : decode cX2_comeNew 26 = .ok (.aload_n 0, 1) := by decide +kernel
theorem dX2_comeNew_27 : decode cX2_comeNew 27 = .ok (.getfield 26, 3) := by decide +kernel
theorem dX2_comeNew_30 : decode cX2_comeNew 30 = .ok (.if_icmp .ge 20, 3) := by decide +kernel
theorem dX2_comeNew_33 : decode cX2_comeNew 33 = .ok (.aload_n 0, 1) := by decide +kernel
theorem dX2_comeNew_34 : decode cX2_comeNew 34 = .ok (.aload_n 0, 1) := by decide +kernel
theorem dX2_comeNew_35 : decode cX2_comeNew 35 = .ok (.iconst 3, 1) := by decide +kernel
theorem dX2_comeNew_36 : decode cX2_comeNew 36 = .ok (.invokevirtual 53, 3) := by decide +kernel
theorem dX2_comeNew_39 : decode cX2_comeNew 39 = .ok (.invokevirtual 46, 3) := by decide +kernel
theorem dX2_comeNew_42 : decode cX2_comeNew 42 = .ok (.aload_n 0, 1) := by decide +kernel
theorem dX2_comeNew_43 : decode cX2_comeNew 43 = .ok (.iload_n 1, 1) := by decide +kernel
theorem dX2_comeNew_44 : decode cX2_comeNew 44 = .ok (.invokevirtual 63, 3) := by decide +kernel
theorem dX2_comeNew_47 : decode cX2_comeNew 47 = .ok (.goto 84, 3) := by decide +kernel
theorem dX2_comeNew_50 : decode cX2_comeNew 50 = .ok (.aload_n 0, 1) := by decide +kernel
theorem dX2_comeNew_51 : decode cX2_comeNew 51 = .ok (.aload_n 0, 1) := by decide +kernel
theorem dX2_comeNew_52 : decode cX2_comeNew 52 = .ok (.iconst 1, 1) := by decide +kernel
theorem dX2_comeNew_53 : decode cX2_comeNew 53 = .ok (.invokevirtual 53, 3) := by decide +kernel
theorem dX2_comeNew_56 : decode cX2_comeNew 56 = .ok (.invokevirtual 56, 3) := by decide +kernel
theorem dX2_comeNew_59 : decode cX2_comeNew 59 = .ok (.aload_n 0, 1) := by decide +kernel
theorem dX2_comeNew_60 : decode cX2_comeNew 60 = .ok (.aload_n 0, 1) := by decide +kernel
theorem dX2_comeNew_61 : decode cX2_comeNew 61 = .ok (.iconst 1, 1) := by decide +kernel
theorem dX2_comeNew_62 : decode cX2_comeNew 62 = .ok (.invokevirtual 53, 3) := by decide +kernel
theorem dX2_comeNew_65 : decode cX2_comeNew 65 = .ok (.invokevirtual 46, 3) := by decide +kernel
theorem dX2_comeNew_68 : decode cX2_comeNew 68 = .ok (.goto 63, 3) := by decide +kernel
theorem dX2_comeNew_71 : decode cX2_comeNew 71 = .ok (.aload_n 0, 1) := by decide +kernel
theorem dX2_comeNew_72 : decode cX2_comeNew 72 = .ok (.getfield 13, 3) := by decide +kernel
theorem dX2_comeNew_75 : decode cX2_comeNew 75 = .ok (.iconst 1, 1) := by decide +kernel
theorem dX2_comeNew_76 : decode cX2_comeNew 76 = .ok (.iaload, 1) := by decide +kernel
theorem dX2_comeNew_77 : decode cX2_comeNew 77 = .ok (.aload_n 0, 1) := by decide +kernel
theorem dX2_comeNew_78 : decode cX2_comeNew 78 = .ok (.getfield 13, 3) := by decide +kernel
theorem dX2_comeNew_81 : decode cX2_comeNew 81 = .ok (.iconst 2, 1) := by decide +kernel
theorem dX2_comeNew_82 : decode cX2_comeNew 82 = .ok (.iaload, 1) := by decide +kernel
theorem dX2_comeNew_83 : decode cX2_comeNew 83 = .ok (.iadd, 1) := by decide +kernel
theorem dX2_comeNew_84 : decode cX2_comeNew 84 = .ok (.aload_n 0, 1) := by decide +kernel
theorem dX2_comeNew_85 : decode cX2_comeNew 85 = .ok (.getfield 13, 3) := by decide +kernel
theorem dX2_comeNew_88 : decode cX2_comeNew 88 = .ok (.iconst 3, 1) := by decide +kernel
theorem dX2_comeNew_89 : decode cX2_comeNew 89 = .ok (.iaload, 1) := by decide +kernel
theorem dX2_comeNew_90 : decode cX2_comeNew 90 = .ok (.iadd, 1) := by decide +kernel
theorem dX2_comeNew_91 : decode cX2_comeNew 91 = .ok (.aload_n 0, 1) := by decide +kernel
theorem dX2_comeNew_92 : decode cX2_comeNew 92 = .ok (.getfield 13, 3) := by decide +kernel
theorem dX2_comeNew_95 : decode cX2_comeNew 95 = .ok (.iconst 4, 1) := by decide +kernel
theorem dX2_comeNew_96 : decode cX2_comeNew 96 = .ok (.iaload, 1) := by decide +kernel
theorem dX2_comeNew_97 : decode cX2_comeNew 97 = .ok (.iadd, 1) := by decide +kernel
theorem dX2_comeNew_98 : decode cX2_comeNew 98 = .ok (.istore_n 2, 1) := by decide +kernel
theorem dX2_comeNew_99 : decode cX2_comeNew 99 = .ok (.iload_n 2, 1) := by decide +kernel
theorem dX2_comeNew_100 : decode cX2_comeNew 100 = .ok (.aload_n 0, 1) := by decide +kernel
theorem dX2_comeNew_101 : decode cX2_comeNew 101 = .ok (.getfield 26, 3) := by decide +kernel
theorem dX2_comeNew_104 : decode cX2_comeNew 104 = .ok (.if_icmp .lt 27, 3) := by decide +kernel
theorem dX2_comeNew_107 : decode cX2_comeNew 107 = .ok (.iload_n 2, 1) := by decide +kernel
theorem dX2_comeNew_108 : decode cX2_comeNew 108 = .ok (.iconst 2, 1) := by decide +kernel
theorem dX2_comeNew_109 : decode cX2_comeNew 109 = .ok (.aload_n 0, 1) := by decide +kernel
theorem dX2_comeNew_110 : decode cX2_comeNew 110 = .ok (.getfield 26, 3) := by decide +kernel
theorem dX2_comeNew_113 : decode cX2_comeNew 113 = .ok (.imul, 1) := by decide +kernel
theorem dX2_comeNew_114 : decode cX2_comeNew 114 = .ok (.if_icmp .ne 12, 3) := by decide +kernel
theorem dX2_comeNew_117 : decode cX2_comeNew 117 = .ok (.aload_n 0, 1) := by decide +kernel
theorem dX2_comeNew_118 : decode cX2_comeNew 118 = .ok (.aload_n 0, 1) := by decide +kernel
theorem dX2_comeNew_119 : decode cX2_comeNew 119 = .ok (.iconst 4, 1) := by decide +kernel
theorem dX2_comeNew_120 : decode cX2_comeNew 120 = .ok (.invokevirtual 53, 3) := by decide +kernel
theorem dX2_comeNew_123 : decode cX2_comeNew 123 = .ok (.invokevirtual 46, 3) := by decide +kernel
theorem dX2_comeNew_126 : decode cX2_comeNew 126 = .ok (.aload_n 0, 1) := by decide +kernel
theorem dX2_comeNew_127 : decode cX2_comeNew 127 = .ok (.iload_n 1, 1) := by decide +kernel
theorem dX2_comeNew_128 : decode cX2_comeNew 128 = .ok (.invokevirtual 63, 3) := by decide +kernel
theorem dX2_comeNew_131 : decode cX2_comeNew 131 = .ok (.aload_n 0, 1) := by decide +kernel
theorem dX2_comeNew_132 : decode cX2_comeNew 132 = .ok (.iload_n 1, 1) := by decide +kernel
theorem dX2_comeNew_133 : decode cX2_comeNew 133 = .ok (.iconst 1, 1) := by decide +kernel
theorem dX2_comeNew_134 : decode cX2_comeNew 134 = .ok (.invokevirtual 59, 3) := by decide +kernel
theorem dX2_comeNew_137 : decode cX2_comeNew 137 = .ok (.return_, 1) := by decide +kernel
abbrev cX2_old : ByteArray := prog_3_method_7_code
def yX2_old : MethodName := ⟨RX2, "old", "(I)I"⟩
theorem dX2_old_0 : decode cX2_old 0 = .ok (.aload_n 0, 1) := by decide +kernel
theorem dX2_old_1 : decode cX2_old 1 = .ok (.getfield 7, 3) := by decide +kernel
theorem dX2_old_4 : decode cX2_old 4 = .ok (.bipush 64, 2) := by decide +kernel
theorem dX2_old_6 : decode cX2_old 6 = .ok (.iload_n 1, 1) := by decide +kernel
theorem dX2_old_7 : decode cX2_old 7 = .ok (.imul, 1) := by decide +kernel
theorem dX2_old_8 : decode cX2_old 8 = .ok (.aload_n 0, 1) := by decide +kernel
theorem dX2_old_9 : decode cX2_old 9 = .ok (.getfield 13, 3) := by decide +kernel
theorem dX2_old_12 : decode cX2_old 12 = .ok (.iload_n 1, 1) := by decide +kernel
theorem dX2_old_13 : decode cX2_old 13 = .ok (.iaload, 1) := by decide +kernel
theorem dX2_old_14 : decode cX2_old 14 = .ok (.iadd, 1) := by decide +kernel
theorem dX2_old_15 : decode cX2_old 15 = .ok (.iconst 1, 1) := by decide +kernel
theorem dX2_old_16 : decode cX2_old 16 = .ok (.isub, 1) := by decide +kernel
theorem dX2_old_17 : decode cX2_old 17 = .ok (.iaload, 1) := by decide +kernel
theorem dX2_old_18 : decode cX2_old 18 = .ok (.ireturn, 1) := by decide +kernel
abbrev cX2_makeRoom : ByteArray := prog_3_method_10_code
def yX2_makeRoom : MethodName := ⟨RX2, "makeRoom", "(I)V"⟩
theorem dX2_makeRoom_0 : decode cX2_makeRoom 0 = .ok (.aload_n 0, 1) := by decide +kernel
theorem dX2_makeRoom_1 : decode cX2_makeRoom 1 = .ok (.getfield 13, 3) := by decide +kernel
theorem dX2_makeRoom_4 : decode cX2_makeRoom 4 = .ok (.iconst 1, 1) := by decide +kernel
theorem dX2_makeRoom_5 : decode cX2_makeRoom 5 = .ok (.iaload, 1) := by decide +kernel
theorem dX2_makeRoom_6 : decode cX2_makeRoom 6 = .ok (.aload_n 0, 1) := by decide +kernel
theorem dX2_makeRoom_7 : decode cX2_makeRoom 7 = .ok (.getfield 30, 3) := by decide +kernel
theorem dX2_makeRoom_10 : decode cX2_makeRoom 10 = .ok (.if_icmp .gt 32, 3) := by decide +kernel
theorem dX2_makeRoom_13 : decode cX2_makeRoom 13 = .ok (.aload_n 0, 1) := by decide +kernel
theorem dX2_makeRoom_14 : decode cX2_makeRoom 14 = .ok (.getfield 13, 3) := by decide +kernel
theorem dX2_makeRoom_17 : decode cX2_makeRoom 17 = .ok (.iconst 1, 1) := by decide +kernel
theorem dX2_makeRoom_18 : decode cX2_makeRoom 18 = .ok (.iaload, 1) := by decide +kernel
theorem dX2_makeRoom_19 : decode cX2_makeRoom 19 = .ok (.aload_n 0, 1) := by decide +kernel
theorem dX2_makeRoom_20 : decode cX2_makeRoom 20 = .ok (.getfield 30, 3) := by decide +kernel
theorem dX2_makeRoom_23 : decode cX2_makeRoom 23 = .ok (.if_icmp .ne 23, 3) := by decide +kernel
theorem dX2_makeRoom_26 : decode cX2_makeRoom 26 = .ok (.aload_n 0, 1) := by decide +kernel
theorem dX2_makeRoom_27 : decode cX2_makeRoom 27 = .ok (.getfield 30, 3) := by decide +kernel
theorem dX2_makeRoom_30 : decode cX2_makeRoom 30 = .ok (.ifCond .le 16, 3) := by decide +kernel
theorem dX2_makeRoom_33 : decode cX2_makeRoom 33 = .ok (.aload_n 0, 1) := by decide +kernel
theorem dX2_makeRoom_34 : decode cX2_makeRoom 34 = .ok (.iload_n 1, 1) := by decide +kernel
theorem dX2_makeRoom_35 : decode cX2_makeRoom 35 = .ok (.invokevirtual 42, 3) := by decide +kernel
theorem dX2_makeRoom_38 : decode cX2_makeRoom 38 = .ok (.iconst 4, 1) := by decide +kernel
theorem dX2_makeRoom_39 : decode cX2_makeRoom 39 = .ok (.if_icmp .ne 7, 3) := by decide +kernel
theorem dX2_makeRoom_42 : decode cX2_makeRoom 42 = .ok (.iconst 1, 1) := by decide +kernel
theorem dX2_makeRoom_43 : decode cX2_makeRoom 43 = .ok (.goto 4, 3) := by decide +kernel
theorem dX2_makeRoom_46 : decode cX2_makeRoom 46 = .ok (.iconst 0, 1) := by decide +kernel
theorem dX2_makeRoom_47 : decode cX2_makeRoom 47 = .ok (.istore_n 2, 1) := by decide +kernel
theorem dX2_makeRoom_48 : decode cX2_makeRoom 48 = .ok (.iload_n 2, 1) := by decide +kernel
theorem dX2_makeRoom_49 : decode cX2_makeRoom 49 = .ok (.ifCond .eq 7, 3) := by decide +kernel
theorem dX2_makeRoom_52 : decode cX2_makeRoom 52 = .ok (.iconst 1, 1) := by decide +kernel
theorem dX2_makeRoom_53 : decode cX2_makeRoom 53 = .ok (.goto 4, 3) := by decide +kernel
theorem dX2_makeRoom_56 : decode cX2_makeRoom 56 = .ok (.iconst 2, 1) := by decide +kernel
theorem dX2_makeRoom_57 : decode cX2_makeRoom 57 = .ok (.istore_n 3, 1) := by decide +kernel
theorem dX2_makeRoom_58 : decode cX2_makeRoom 58 = .ok (.aload_n 0, 1) := by decide +kernel
theorem dX2_makeRoom_59 : decode cX2_makeRoom 59 = .ok (.getfield 13, 3) := by decide +kernel
theorem dX2_makeRoom_62 : decode cX2_makeRoom 62 = .ok (.iload_n 3, 1) := by decide +kernel
theorem dX2_makeRoom_63 : decode cX2_makeRoom 63 = .ok (.iaload, 1) := by decide +kernel
theorem dX2_makeRoom_64 : decode cX2_makeRoom 64 = .ok (.ifCond .le 25, 3) := by decide +kernel
theorem dX2_makeRoom_67 : decode cX2_makeRoom 67 = .ok (.aload_n 0, 1) := by decide +kernel
theorem dX2_makeRoom_68 : decode cX2_makeRoom 68 = .ok (.iload_n 3, 1) := by decide +kernel
theorem dX2_makeRoom_69 : decode cX2_makeRoom 69 = .ok (.invokevirtual 53, 3) := by decide +kernel
theorem dX2_makeRoom_72 : decode cX2_makeRoom 72 = .ok (.istore 4, 2) := by decide +kernel
theorem dX2_makeRoom_74 : decode cX2_makeRoom 74 = .ok (.aload_n 0, 1) := by decide +kernel
theorem dX2_makeRoom_75 : decode cX2_makeRoom 75 = .ok (.iload 4, 2) := by decide +kernel
theorem dX2_makeRoom_77 : decode cX2_makeRoom 77 = .ok (.invokevirtual 56, 3) := by decide +kernel
theorem dX2_makeRoom_80 : decode cX2_makeRoom 80 = .ok (.aload_n 0, 1) := by decide +kernel
theorem dX2_makeRoom_81 : decode cX2_makeRoom 81 = .ok (.iload 4, 2) := by decide +kernel
theorem dX2_makeRoom_83 : decode cX2_makeRoom 83 = .ok (.iload_n 3, 1) := by decide +kernel
theorem dX2_makeRoom_84 : decode cX2_makeRoom 84 = .ok (.iconst 2, 1) := by decide +kernel
theorem dX2_makeRoom_85 : decode cX2_makeRoom 85 = .ok (.iadd, 1) := by decide +kernel
theorem dX2_makeRoom_86 : decode cX2_makeRoom 86 = .ok (.invokevirtual 59, 3) := by decide +kernel
theorem dX2_makeRoom_89 : decode cX2_makeRoom 89 = .ok (.return_, 1) := by decide +kernel
abbrev cX2_go : ByteArray := prog_3_method_9_code
def yX2_go : MethodName := ⟨RX2, "go", "(I)V"⟩
theorem dX2_go_0 : decode cX2_go 0 = .ok (.aload_n 0, 1) := by decide +kernel
theorem dX2_go_1 : decode cX2_go 1 = .ok (.iload_n 1, 1) := by decide +kernel
theorem dX2_go_2 : decode cX2_go 2 = .ok (.invokevirtual 50, 3) := by decide +kernel
theorem dX2_go_5 : decode cX2_go 5 = .ok (.aload_n 0, 1) := by decide +kernel
theorem dX2_go_6 : decode cX2_go 6 = .ok (.dup, 1) := by decide +kernel
theorem dX2_go_7 : decode cX2_go 7 = .ok (.getfield 39, 3) := by decide +kernel
theorem dX2_go_10 : decode cX2_go 10 = .ok (.iconst 1, 1) := by decide +kernel
theorem dX2_go_11 : decode cX2_go 11 = .ok (.iadd, 1) := by decide +kernel
theorem dX2_go_12 : decode cX2_go 12 = .ok (.putfield 39, 3) := by decide +kernel
theorem dX2_go_15 : decode cX2_go 15 = .ok (.return_, 1) := by decide +kernel
abbrev cX2_clean : ByteArray := prog_3_method_8_code
def yX2_clean : MethodName := ⟨RX2, "clean", "(I)V"⟩
theorem dX2_clean_0 : decode cX2_clean 0 = .ok (.aload_n 0, 1) := by decide +kernel
theorem dX2_clean_1 : decode cX2_clean 1 = .ok (.getfield 16, 3) := by decide +kernel
theorem dX2_clean_4 : decode cX2_clean 4 = .ok (.iload_n 1, 1) := by decide +kernel
theorem dX2_clean_5 : decode cX2_clean 5 = .ok (.aload_n 0, 1) := by decide +kernel
theorem dX2_clean_6 : decode cX2_clean 6 = .ok (.getfield 22, 3) := by decide +kernel
theorem dX2_clean_9 : decode cX2_clean 9 = .ok (.iload_n 1, 1) := by decide +kernel
theorem dX2_clean_10 : decode cX2_clean 10 = .ok (.baload, 1) := by decide +kernel
theorem dX2_clean_11 : decode cX2_clean 11 = .ok (.ifCond .eq 12, 3) := by decide +kernel
theorem dX2_clean_14 : decode cX2_clean 14 = .ok (.aload_n 0, 1) := by decide +kernel
theorem dX2_clean_15 : decode cX2_clean 15 = .ok (.getfield 19, 3) := by decide +kernel
theorem dX2_clean_18 : decode cX2_clean 18 = .ok (.iload_n 1, 1) := by decide +kernel
theorem dX2_clean_19 : decode cX2_clean 19 = .ok (.iaload, 1) := by decide +kernel
theorem dX2_clean_20 : decode cX2_clean 20 = .ok (.goto 9, 3) := by decide +kernel
theorem dX2_clean_23 : decode cX2_clean 23 = .ok (.aload_n 0, 1) := by decide +kernel
theorem dX2_clean_24 : decode cX2_clean 24 = .ok (.getfield 16, 3) := by decide +kernel
theorem dX2_clean_27 : decode cX2_clean 27 = .ok (.iload_n 1, 1) := by decide +kernel
theorem dX2_clean_28 : decode cX2_clean 28 = .ok (.iaload, 1) := by decide +kernel
theorem dX2_clean_29 : decode cX2_clean 29 = .ok (.iastore, 1) := by decide +kernel
theorem dX2_clean_30 : decode cX2_clean 30 = .ok (.aload_n 0, 1) := by decide +kernel
theorem dX2_clean_31 : decode cX2_clean 31 = .ok (.getfield 22, 3) := by decide +kernel
theorem dX2_clean_34 : decode cX2_clean 34 = .ok (.iload_n 1, 1) := by decide +kernel
theorem dX2_clean_35 : decode cX2_clean 35 = .ok (.iconst 0, 1) := by decide +kernel
theorem dX2_clean_36 : decode cX2_clean 36 = .ok (.bastore, 1) := by decide +kernel
theorem dX2_clean_37 : decode cX2_clean 37 = .ok (.return_, 1) := by decide +kernel
abbrev cX2_write : ByteArray := prog_3_method_14_code
def yX2_write : MethodName := ⟨RX2, "write", "(II)Z"⟩
theorem dX2_write_0 : decode cX2_write 0 = .ok (.iload_n 1, 1) := by decide +kernel
theorem dX2_write_1 : decode cX2_write 1 = .ok (.invokestatic 69, 3) := by decide +kernel
theorem dX2_write_4 : decode cX2_write 4 = .ok (.ifCond .ne 5, 3) := by decide +kernel
theorem dX2_write_7 : decode cX2_write 7 = .ok (.iconst 0, 1) := by decide +kernel
theorem dX2_write_8 : decode cX2_write 8 = .ok (.ireturn, 1) := by decide +kernel
theorem dX2_write_9 : decode cX2_write 9 = .ok (.aload_n 0, 1) := by decide +kernel
theorem dX2_write_10 : decode cX2_write 10 = .ok (.iload_n 1, 1) := by decide +kernel
theorem dX2_write_11 : decode cX2_write 11 = .ok (.invokevirtual 73, 3) := by decide +kernel
theorem dX2_write_14 : decode cX2_write 14 = .ok (.aload_n 0, 1) := by decide +kernel
theorem dX2_write_15 : decode cX2_write 15 = .ok (.getfield 19, 3) := by decide +kernel
theorem dX2_write_18 : decode cX2_write 18 = .ok (.iload_n 1, 1) := by decide +kernel
theorem dX2_write_19 : decode cX2_write 19 = .ok (.iload_n 2, 1) := by decide +kernel
theorem dX2_write_20 : decode cX2_write 20 = .ok (.iastore, 1) := by decide +kernel
theorem dX2_write_21 : decode cX2_write 21 = .ok (.aload_n 0, 1) := by decide +kernel
theorem dX2_write_22 : decode cX2_write 22 = .ok (.getfield 22, 3) := by decide +kernel
theorem dX2_write_25 : decode cX2_write 25 = .ok (.iload_n 1, 1) := by decide +kernel
theorem dX2_write_26 : decode cX2_write 26 = .ok (.iconst 1, 1) := by decide +kernel
theorem dX2_write_27 : decode cX2_write 27 = .ok (.bastore, 1) := by decide +kernel
theorem dX2_write_28 : decode cX2_write 28 = .ok (.iconst 1, 1) := by decide +kernel
theorem dX2_write_29 : decode cX2_write 29 = .ok (.ireturn, 1) := by decide +kernel
abbrev cX2_flush : ByteArray := prog_3_method_15_code
def yX2_flush : MethodName := ⟨RX2, "flush", "()I"⟩
theorem dX2_flush_0 : decode cX2_flush 0 = .ok (.iconst 0, 1) := by decide +kernel
theorem dX2_flush_1 : decode cX2_flush 1 = .ok (.istore_n 1, 1) := by decide +kernel
theorem dX2_flush_2 : decode cX2_flush 2 = .ok (.iconst 0, 1) := by decide +kernel
theorem dX2_flush_3 : decode cX2_flush 3 = .ok (.istore_n 2, 1) := by decide +kernel
theorem dX2_flush_4 : decode cX2_flush 4 = .ok (.iload_n 2, 1) := by decide +kernel
theorem dX2_flush_5 : decode cX2_flush 5 = .ok (.bipush 64, 2) := by decide +kernel
theorem dX2_flush_7 : decode cX2_flush 7 = .ok (.if_icmp .ge 31, 3) := by decide +kernel
theorem dX2_flush_10 : decode cX2_flush 10 = .ok (.iload_n 1, 1) := by decide +kernel
theorem dX2_flush_11 : decode cX2_flush 11 = .ok (.aload_n 0, 1) := by decide +kernel
theorem dX2_flush_12 : decode cX2_flush 12 = .ok (.getfield 22, 3) := by decide +kernel
theorem dX2_flush_15 : decode cX2_flush 15 = .ok (.iload_n 2, 1) := by decide +kernel
theorem dX2_flush_16 : decode cX2_flush 16 = .ok (.baload, 1) := by decide +kernel
theorem dX2_flush_17 : decode cX2_flush 17 = .ok (.ifCond .eq 7, 3) := by decide +kernel
theorem dX2_flush_20 : decode cX2_flush 20 = .ok (.iconst 1, 1) := by decide +kernel
theorem dX2_flush_21 : decode cX2_flush 21 = .ok (.goto 4, 3) := by decide +kernel
theorem dX2_flush_24 : decode cX2_flush 24 = .ok (.iconst 0, 1) := by decide +kernel
theorem dX2_flush_25 : decode cX2_flush 25 = .ok (.iadd, 1) := by decide +kernel
theorem dX2_flush_26 : decode cX2_flush 26 = .ok (.istore_n 1, 1) := by decide +kernel
theorem dX2_flush_27 : decode cX2_flush 27 = .ok (.aload_n 0, 1) := by decide +kernel
theorem dX2_flush_28 : decode cX2_flush 28 = .ok (.iload_n 2, 1) := by decide +kernel
theorem dX2_flush_29 : decode cX2_flush 29 = .ok (.invokevirtual 50, 3) := by decide +kernel
theorem dX2_flush_32 : decode cX2_flush 32 = .ok (.iinc 2 1, 3) := by decide +kernel
theorem dX2_flush_35 : decode cX2_flush 35 = .ok (.goto (-31), 3) := by decide +kernel
theorem dX2_flush_38 : decode cX2_flush 38 = .ok (.iload_n 1, 1) := by decide +kernel
theorem dX2_flush_39 : decode cX2_flush 39 = .ok (.ireturn, 1) := by decide +kernel
abbrev cX2_at : ByteArray := prog_3_method_16_code
def yX2_at : MethodName := ⟨RX2, "at", "(II)I"⟩
theorem dX2_at_0 : decode cX2_at 0 = .ok (.iload_n 1, 1) := by decide +kernel
theorem dX2_at_1 : decode cX2_at 1 = .ok (.iconst 1, 1) := by decide +kernel
theorem dX2_at_2 : decode cX2_at 2 = .ok (.if_icmp .lt 22, 3) := by decide +kernel
theorem dX2_at_5 : decode cX2_at 5 = .ok (.iload_n 1, 1) := by decide +kernel
theorem dX2_at_6 : decode cX2_at 6 = .ok (.iconst 4, 1) := by decide +kernel
theorem dX2_at_7 : decode cX2_at 7 = .ok (.if_icmp .gt 17, 3) := by decide +kernel
theorem dX2_at_10 : decode cX2_at 10 = .ok (.iload_n 2, 1) := by decide +kernel
theorem dX2_at_11 : decode cX2_at 11 = .ok (.ifCond .lt 13, 3) := by decide +kernel
theorem dX2_at_14 : decode cX2_at 14 = .ok (.iload_n 2, 1) := by decide +kernel
theorem dX2_at_15 : decode cX2_at 15 = .ok (.aload_n 0, 1) := by decide +kernel
theorem dX2_at_16 : decode cX2_at 16 = .ok (.getfield 13, 3) := by decide +kernel
theorem dX2_at_19 : decode cX2_at 19 = .ok (.iload_n 1, 1) := by decide +kernel
theorem dX2_at_20 : decode cX2_at 20 = .ok (.iaload, 1) := by decide +kernel
theorem dX2_at_21 : decode cX2_at 21 = .ok (.if_icmp .lt 7, 3) := by decide +kernel
theorem dX2_at_24 : decode cX2_at 24 = .ok (.iconst (-1), 1) := by decide +kernel
theorem dX2_at_25 : decode cX2_at 25 = .ok (.goto 14, 3) := by decide +kernel
theorem dX2_at_28 : decode cX2_at 28 = .ok (.aload_n 0, 1) := by decide +kernel
theorem dX2_at_29 : decode cX2_at 29 = .ok (.getfield 7, 3) := by decide +kernel
theorem dX2_at_32 : decode cX2_at 32 = .ok (.bipush 64, 2) := by decide +kernel
theorem dX2_at_34 : decode cX2_at 34 = .ok (.iload_n 1, 1) := by decide +kernel
theorem dX2_at_35 : decode cX2_at 35 = .ok (.imul, 1) := by decide +kernel
theorem dX2_at_36 : decode cX2_at 36 = .ok (.iload_n 2, 1) := by decide +kernel
theorem dX2_at_37 : decode cX2_at 37 = .ok (.iadd, 1) := by decide +kernel
theorem dX2_at_38 : decode cX2_at 38 = .ok (.iaload, 1) := by decide +kernel
theorem dX2_at_39 : decode cX2_at 39 = .ok (.ireturn, 1) := by decide +kernel
abbrev cX2_length : ByteArray := prog_3_method_17_code
def yX2_length : MethodName := ⟨RX2, "length", "(I)I"⟩
theorem dX2_length_0 : decode cX2_length 0 = .ok (.iload_n 1, 1) := by decide +kernel
theorem dX2_length_1 : decode cX2_length 1 = .ok (.iconst 1, 1) := by decide +kernel
theorem dX2_length_2 : decode cX2_length 2 = .ok (.if_icmp .lt 8, 3) := by decide +kernel
theorem dX2_length_5 : decode cX2_length 5 = .ok (.iload_n 1, 1) := by decide +kernel
theorem dX2_length_6 : decode cX2_length 6 = .ok (.iconst 4, 1) := by decide +kernel
theorem dX2_length_7 : decode cX2_length 7 = .ok (.if_icmp .le 7, 3) := by decide +kernel
theorem dX2_length_10 : decode cX2_length 10 = .ok (.iconst (-1), 1) := by decide +kernel
theorem dX2_length_11 : decode cX2_length 11 = .ok (.goto 9, 3) := by decide +kernel
theorem dX2_length_14 : decode cX2_length 14 = .ok (.aload_n 0, 1) := by decide +kernel
theorem dX2_length_15 : decode cX2_length 15 = .ok (.getfield 13, 3) := by decide +kernel
theorem dX2_length_18 : decode cX2_length 18 = .ok (.iload_n 1, 1) := by decide +kernel
theorem dX2_length_19 : decode cX2_length 19 = .ok (.iaload, 1) := by decide +kernel
theorem dX2_length_20 : decode cX2_length 20 = .ok (.ireturn, 1) := by decide +kernel
abbrev cX2_target : ByteArray := prog_3_method_18_code
def yX2_target : MethodName := ⟨RX2, "target", "()I"⟩
theorem dX2_target_0 : decode cX2_target 0 = .ok (.aload_n 0, 1) := by decide +kernel
theorem dX2_target_1 : decode cX2_target 1 = .ok (.getfield 30, 3) := by decide +kernel
theorem dX2_target_4 : decode cX2_target 4 = .ok (.ireturn, 1) := by decide +kernel
abbrev cX2_hits : ByteArray := prog_3_method_19_code
def yX2_hits : MethodName := ⟨RX2, "hits", "()I"⟩
theorem dX2_hits_0 : decode cX2_hits 0 = .ok (.aload_n 0, 1) := by decide +kernel
theorem dX2_hits_1 : decode cX2_hits 1 = .ok (.getfield 33, 3) := by decide +kernel
theorem dX2_hits_4 : decode cX2_hits 4 = .ok (.ireturn, 1) := by decide +kernel
abbrev cX2_misses : ByteArray := prog_3_method_20_code
def yX2_misses : MethodName := ⟨RX2, "misses", "()I"⟩
theorem dX2_misses_0 : decode cX2_misses 0 = .ok (.aload_n 0, 1) := by decide +kernel
theorem dX2_misses_1 : decode cX2_misses 1 = .ok (.getfield 36, 3) := by decide +kernel
theorem dX2_misses_4 : decode cX2_misses 4 = .ok (.ireturn, 1) := by decide +kernel
abbrev cX2_store : ByteArray := prog_3_method_21_code
def yX2_store : MethodName := ⟨RX2, "store", "(I)I"⟩
theorem dX2_store_0 : decode cX2_store 0 = .ok (.iload_n 1, 1) := by decide +kernel
theorem dX2_store_1 : decode cX2_store 1 = .ok (.invokestatic 69, 3) := by decide +kernel
theorem dX2_store_4 : decode cX2_store 4 = .ok (.ifCond .eq 12, 3) := by decide +kernel
theorem dX2_store_7 : decode cX2_store 7 = .ok (.aload_n 0, 1) := by decide +kernel
theorem dX2_store_8 : decode cX2_store 8 = .ok (.getfield 16, 3) := by decide +kernel
theorem dX2_store_11 : decode cX2_store 11 = .ok (.iload_n 1, 1) := by decide +kernel
theorem dX2_store_12 : decode cX2_store 12 = .ok (.iaload, 1) := by decide +kernel
theorem dX2_store_13 : decode cX2_store 13 = .ok (.goto 4, 3) := by decide +kernel
theorem dX2_store_16 : decode cX2_store 16 = .ok (.iconst 0, 1) := by decide +kernel
theorem dX2_store_17 : decode cX2_store 17 = .ok (.ireturn, 1) := by decide +kernel
abbrev cX2_isDirty : ByteArray := prog_3_method_22_code
def yX2_isDirty : MethodName := ⟨RX2, "isDirty", "(I)Z"⟩
theorem dX2_isDirty_0 : decode cX2_isDirty 0 = .ok (.iload_n 1, 1) := by decide +kernel
theorem dX2_isDirty_1 : decode cX2_isDirty 1 = .ok (.invokestatic 69, 3) := by decide +kernel
theorem dX2_isDirty_4 : decode cX2_isDirty 4 = .ok (.ifCond .eq 16, 3) := by decide +kernel
theorem dX2_isDirty_7 : decode cX2_isDirty 7 = .ok (.aload_n 0, 1) := by decide +kernel
theorem dX2_isDirty_8 : decode cX2_isDirty 8 = .ok (.getfield 22, 3) := by decide +kernel
theorem dX2_isDirty_11 : decode cX2_isDirty 11 = .ok (.iload_n 1, 1) := by decide +kernel
theorem dX2_isDirty_12 : decode cX2_isDirty 12 = .ok (.baload, 1) := by decide +kernel
theorem dX2_isDirty_13 : decode cX2_isDirty 13 = .ok (.ifCond .eq 7, 3) := by decide +kernel
theorem dX2_isDirty_16 : decode cX2_isDirty 16 = .ok (.iconst 1, 1) := by decide +kernel
theorem dX2_isDirty_17 : decode cX2_isDirty 17 = .ok (.goto 4, 3) := by decide +kernel
theorem dX2_isDirty_20 : decode cX2_isDirty 20 = .ok (.iconst 0, 1) := by decide +kernel
theorem dX2_isDirty_21 : decode cX2_isDirty 21 = .ok (.ireturn, 1) := by decide +kernel
abbrev cX2_gone : ByteArray := prog_3_method_23_code
def yX2_gone : MethodName := ⟨RX2, "gone", "()I"⟩
theorem dX2_gone_0 : decode cX2_gone 0 = .ok (.aload_n 0, 1) := by decide +kernel
theorem dX2_gone_1 : decode cX2_gone 1 = .ok (.getfield 39, 3) := by decide +kernel
theorem dX2_gone_4 : decode cX2_gone 4 = .ok (.ireturn, 1) := by decide +kernel
theorem q17 : (Jvm.Cond.initialized "ArcCacheModel") ∈ lw_all := lw_g (lw_at lw_m1 2 rfl) rfl
theorem q156 : (Jvm.Cond.instantiable "ArcCacheModel" (10 : Nat)) ∈ lw_all := lw_g (lw_at lw_m1 141 rfl) rfl
theorem q158 : (Jvm.Cond.instanceMethod ({ cls := "ArcCacheModel", name := "<init>", desc := "(I)V" } : Jvm.MethodName)) ∈ lw_all := lw_g (lw_at lw_m1 143 rfl) rfl
theorem q159 : (Jvm.Cond.code ({ cls := "ArcCacheModel", name := "<init>", desc := "(I)V" } : Jvm.MethodName) prog_3_method_1_code (3 : Nat) (Option.none : Option Jvm.ClassFile.FieldType)) ∈ lw_all := lw_g (lw_at lw_m1 144 rfl) rfl
theorem q160 : (Jvm.Cond.methodLink "ArcCacheModel" (1 : Nat) ({ cls := "java/lang/Object", name := "<init>", desc := "()V" } : Jvm.MethodName)) ∈ lw_all := lw_g (lw_at lw_m1 145 rfl) rfl
theorem q161 : (Jvm.Cond.fieldLink "ArcCacheModel" (26 : Nat) "ArcCacheModel" "pages" "I") ∈ lw_all := lw_g (lw_at lw_m1 146 rfl) rfl
theorem q162 : (Jvm.Cond.fieldLink "ArcCacheModel" (7 : Nat) "ArcCacheModel" "lists" "[I") ∈ lw_all := lw_g (lw_at lw_m1 147 rfl) rfl
theorem q163 : (Jvm.Cond.fieldLink "ArcCacheModel" (13 : Nat) "ArcCacheModel" "many" "[I") ∈ lw_all := lw_g (lw_at lw_m1 148 rfl) rfl
theorem q164 : (Jvm.Cond.fieldLink "ArcCacheModel" (16 : Nat) "ArcCacheModel" "store" "[I") ∈ lw_all := lw_g (lw_at lw_m1 149 rfl) rfl
theorem q165 : (Jvm.Cond.fieldLink "ArcCacheModel" (19 : Nat) "ArcCacheModel" "words" "[I") ∈ lw_all := lw_g (lw_at lw_m1 150 rfl) rfl
theorem q166 : (Jvm.Cond.fieldLink "ArcCacheModel" (22 : Nat) "ArcCacheModel" "dirty" "[Z") ∈ lw_all := lw_g (lw_at lw_m1 151 rfl) rfl
theorem q167 : (Jvm.Cond.fieldLink "ArcCacheModel" (30 : Nat) "ArcCacheModel" "target" "I") ∈ lw_all := lw_g (lw_at lw_m1 152 rfl) rfl
theorem q168 : (Jvm.Cond.fieldLink "ArcCacheModel" (33 : Nat) "ArcCacheModel" "hits" "I") ∈ lw_all := lw_g (lw_at lw_m1 153 rfl) rfl
theorem q169 : (Jvm.Cond.fieldLink "ArcCacheModel" (36 : Nat) "ArcCacheModel" "misses" "I") ∈ lw_all := lw_g (lw_at lw_m1 154 rfl) rfl
theorem q170 : (Jvm.Cond.fieldLink "ArcCacheModel" (39 : Nat) "ArcCacheModel" "gone" "I") ∈ lw_all := lw_g (lw_at lw_m1 155 rfl) rfl
theorem q171 : (Jvm.Cond.laysFinal "ArcCacheModel" "ArcCacheModel" "pages" "I") ∈ lw_all := lw_g (lw_at lw_m1 156 rfl) rfl
theorem q172 : (Jvm.Cond.soleField "ArcCacheModel" "pages") ∈ lw_all := lw_g (lw_at lw_m1 157 rfl) rfl
theorem q173 : (Jvm.Cond.laysFinal "ArcCacheModel" "ArcCacheModel" "lists" "[I") ∈ lw_all := lw_g (lw_at lw_m1 158 rfl) rfl
theorem q174 : (Jvm.Cond.soleField "ArcCacheModel" "lists") ∈ lw_all := lw_g (lw_at lw_m1 159 rfl) rfl
theorem q175 : (Jvm.Cond.laysFinal "ArcCacheModel" "ArcCacheModel" "many" "[I") ∈ lw_all := lw_g (lw_at lw_m1 160 rfl) rfl
theorem q176 : (Jvm.Cond.soleField "ArcCacheModel" "many") ∈ lw_all := lw_g (lw_at lw_m1 161 rfl) rfl
theorem q177 : (Jvm.Cond.laysFinal "ArcCacheModel" "ArcCacheModel" "store" "[I") ∈ lw_all := lw_g (lw_at lw_m1 162 rfl) rfl
theorem q178 : (Jvm.Cond.soleField "ArcCacheModel" "store") ∈ lw_all := lw_g (lw_at lw_m1 163 rfl) rfl
theorem q179 : (Jvm.Cond.laysFinal "ArcCacheModel" "ArcCacheModel" "words" "[I") ∈ lw_all := lw_g (lw_at lw_m1 164 rfl) rfl
theorem q180 : (Jvm.Cond.soleField "ArcCacheModel" "words") ∈ lw_all := lw_g (lw_at lw_m1 165 rfl) rfl
theorem q181 : (Jvm.Cond.laysFinal "ArcCacheModel" "ArcCacheModel" "dirty" "[Z") ∈ lw_all := lw_g (lw_at lw_m1 166 rfl) rfl
theorem q182 : (Jvm.Cond.soleField "ArcCacheModel" "dirty") ∈ lw_all := lw_g (lw_at lw_m1 167 rfl) rfl
theorem q183 : (Jvm.Cond.lays "ArcCacheModel" "ArcCacheModel" "target" "I") ∈ lw_all := lw_g (lw_at lw_m1 168 rfl) rfl
theorem q184 : (Jvm.Cond.soleField "ArcCacheModel" "target") ∈ lw_all := lw_g (lw_at lw_m1 169 rfl) rfl
theorem q185 : (Jvm.Cond.lays "ArcCacheModel" "ArcCacheModel" "hits" "I") ∈ lw_all := lw_g (lw_at lw_m1 170 rfl) rfl
theorem q186 : (Jvm.Cond.soleField "ArcCacheModel" "hits") ∈ lw_all := lw_g (lw_at lw_m1 171 rfl) rfl
theorem q187 : (Jvm.Cond.lays "ArcCacheModel" "ArcCacheModel" "misses" "I") ∈ lw_all := lw_g (lw_at lw_m1 172 rfl) rfl
theorem q188 : (Jvm.Cond.soleField "ArcCacheModel" "misses") ∈ lw_all := lw_g (lw_at lw_m1 173 rfl) rfl
theorem q189 : (Jvm.Cond.lays "ArcCacheModel" "ArcCacheModel" "gone" "I") ∈ lw_all := lw_g (lw_at lw_m1 174 rfl) rfl
theorem q190 : (Jvm.Cond.soleField "ArcCacheModel" "gone") ∈ lw_all := lw_g (lw_at lw_m1 175 rfl) rfl
theorem q191 : (Jvm.Cond.superclass "ArcCacheModel" "java/lang/Object") ∈ lw_all := lw_g (lw_at lw_m1 176 rfl) rfl
theorem q193 : (Jvm.Cond.instanceMethod ({ cls := "ArcCacheModel", name := "init", desc := "()V" } : Jvm.MethodName)) ∈ lw_all := lw_g (lw_at lw_m1 178 rfl) rfl
theorem q194 : (Jvm.Cond.selects "ArcCacheModel" ({ cls := "ArcCacheModel", name := "init", desc := "()V" } : Jvm.MethodName) ({ cls := "ArcCacheModel", name := "init", desc := "()V" } : Jvm.MethodName)) ∈ lw_all := lw_g (lw_at lw_m1 179 rfl) rfl
theorem q195 : (Jvm.Cond.code ({ cls := "ArcCacheModel", name := "init", desc := "()V" } : Jvm.MethodName) prog_3_method_2_code (2 : Nat) (Option.none : Option Jvm.ClassFile.FieldType)) ∈ lw_all := lw_g (lw_at lw_m1 180 rfl) rfl
theorem q197 : (Jvm.Cond.instanceMethod ({ cls := "ArcCacheModel", name := "whichList", desc := "(I)I" } : Jvm.MethodName)) ∈ lw_all := lw_g (lw_at lw_m1 182 rfl) rfl
theorem q198 : (Jvm.Cond.selects "ArcCacheModel" ({ cls := "ArcCacheModel", name := "whichList", desc := "(I)I" } : Jvm.MethodName) ({ cls := "ArcCacheModel", name := "whichList", desc := "(I)I" } : Jvm.MethodName)) ∈ lw_all := lw_g (lw_at lw_m1 183 rfl) rfl
theorem q199 : (Jvm.Cond.code ({ cls := "ArcCacheModel", name := "whichList", desc := "(I)I" } : Jvm.MethodName) prog_3_method_4_code (5 : Nat) (Option.some Jvm.ClassFile.FieldType.int)) ∈ lw_all := lw_g (lw_at lw_m1 184 rfl) rfl
theorem q201 : (Jvm.Cond.instanceMethod ({ cls := "ArcCacheModel", name := "read", desc := "(I)I" } : Jvm.MethodName)) ∈ lw_all := lw_g (lw_at lw_m1 186 rfl) rfl
theorem q202 : (Jvm.Cond.selects "ArcCacheModel" ({ cls := "ArcCacheModel", name := "read", desc := "(I)I" } : Jvm.MethodName) ({ cls := "ArcCacheModel", name := "read", desc := "(I)I" } : Jvm.MethodName)) ∈ lw_all := lw_g (lw_at lw_m1 187 rfl) rfl
theorem q203 : (Jvm.Cond.code ({ cls := "ArcCacheModel", name := "read", desc := "(I)I" } : Jvm.MethodName) prog_3_method_13_code (2 : Nat) (Option.some Jvm.ClassFile.FieldType.int)) ∈ lw_all := lw_g (lw_at lw_m1 188 rfl) rfl
theorem q204 : (Jvm.Cond.methodLink "ArcCacheModel" (69 : Nat) ({ cls := "ArcCacheModel", name := "isAddress", desc := "(I)Z" } : Jvm.MethodName)) ∈ lw_all := lw_g (lw_at lw_m1 189 rfl) rfl
theorem q205 : (Jvm.Cond.static ({ cls := "ArcCacheModel", name := "isAddress", desc := "(I)Z" } : Jvm.MethodName)) ∈ lw_all := lw_g (lw_at lw_m1 190 rfl) rfl
theorem q206 : (Jvm.Cond.code ({ cls := "ArcCacheModel", name := "isAddress", desc := "(I)Z" } : Jvm.MethodName) prog_3_method_3_code (1 : Nat) (Option.some Jvm.ClassFile.FieldType.boolean)) ∈ lw_all := lw_g (lw_at lw_m1 191 rfl) rfl
theorem q207 : (Jvm.Cond.methodLink "ArcCacheModel" (73 : Nat) ({ cls := "ArcCacheModel", name := "request", desc := "(I)V" } : Jvm.MethodName)) ∈ lw_all := lw_g (lw_at lw_m1 192 rfl) rfl
theorem q208 : (Jvm.Cond.privateMethod ({ cls := "ArcCacheModel", name := "request", desc := "(I)V" } : Jvm.MethodName)) ∈ lw_tbl := lw_at lw_m1 193 rfl
theorem q209 : (Jvm.Cond.instanceMethod ({ cls := "ArcCacheModel", name := "request", desc := "(I)V" } : Jvm.MethodName)) ∈ lw_all := lw_g (lw_at lw_m1 194 rfl) rfl
theorem q210 : (Jvm.Cond.code ({ cls := "ArcCacheModel", name := "request", desc := "(I)V" } : Jvm.MethodName) prog_3_method_12_code (4 : Nat) (Option.none : Option Jvm.ClassFile.FieldType)) ∈ lw_all := lw_g (lw_at lw_m1 195 rfl) rfl
theorem q211 : (Jvm.Cond.methodLink "ArcCacheModel" (42 : Nat) ({ cls := "ArcCacheModel", name := "whichList", desc := "(I)I" } : Jvm.MethodName)) ∈ lw_all := lw_g (lw_at lw_m1 196 rfl) rfl
theorem q212 : (Jvm.Cond.methodLink "ArcCacheModel" (59 : Nat) ({ cls := "ArcCacheModel", name := "come", desc := "(II)V" } : Jvm.MethodName)) ∈ lw_all := lw_g (lw_at lw_m1 197 rfl) rfl
theorem q213 : (Jvm.Cond.privateMethod ({ cls := "ArcCacheModel", name := "come", desc := "(II)V" } : Jvm.MethodName)) ∈ lw_tbl := lw_at lw_m1 198 rfl
theorem q214 : (Jvm.Cond.instanceMethod ({ cls := "ArcCacheModel", name := "come", desc := "(II)V" } : Jvm.MethodName)) ∈ lw_all := lw_g (lw_at lw_m1 199 rfl) rfl
theorem q215 : (Jvm.Cond.code ({ cls := "ArcCacheModel", name := "come", desc := "(II)V" } : Jvm.MethodName) prog_3_method_6_code (4 : Nat) (Option.none : Option Jvm.ClassFile.FieldType)) ∈ lw_all := lw_g (lw_at lw_m1 200 rfl) rfl
theorem q216 : (Jvm.Cond.methodLink "ArcCacheModel" (46 : Nat) ({ cls := "ArcCacheModel", name := "leave", desc := "(I)V" } : Jvm.MethodName)) ∈ lw_all := lw_g (lw_at lw_m1 201 rfl) rfl
theorem q217 : (Jvm.Cond.privateMethod ({ cls := "ArcCacheModel", name := "leave", desc := "(I)V" } : Jvm.MethodName)) ∈ lw_tbl := lw_at lw_m1 202 rfl
theorem q218 : (Jvm.Cond.instanceMethod ({ cls := "ArcCacheModel", name := "leave", desc := "(I)V" } : Jvm.MethodName)) ∈ lw_all := lw_g (lw_at lw_m1 203 rfl) rfl
theorem q219 : (Jvm.Cond.code ({ cls := "ArcCacheModel", name := "leave", desc := "(I)V" } : Jvm.MethodName) prog_3_method_5_code (4 : Nat) (Option.none : Option Jvm.ClassFile.FieldType)) ∈ lw_all := lw_g (lw_at lw_m1 204 rfl) rfl
theorem q220 : (Jvm.Cond.methodLink "ArcCacheModel" (66 : Nat) ({ cls := "ArcCacheModel", name := "comeNew", desc := "(I)V" } : Jvm.MethodName)) ∈ lw_all := lw_g (lw_at lw_m1 205 rfl) rfl
theorem q221 : (Jvm.Cond.privateMethod ({ cls := "ArcCacheModel", name := "comeNew", desc := "(I)V" } : Jvm.MethodName)) ∈ lw_tbl := lw_at lw_m1 206 rfl
theorem q222 : (Jvm.Cond.instanceMethod ({ cls := "ArcCacheModel", name := "comeNew", desc := "(I)V" } : Jvm.MethodName)) ∈ lw_all := lw_g (lw_at lw_m1 207 rfl) rfl
theorem q223 : (Jvm.Cond.code ({ cls := "ArcCacheModel", name := "comeNew", desc := "(I)V" } : Jvm.MethodName) prog_3_method_11_code (3 : Nat) (Option.none : Option Jvm.ClassFile.FieldType)) ∈ lw_all := lw_g (lw_at lw_m1 208 rfl) rfl
theorem q224 : (Jvm.Cond.methodLink "ArcCacheModel" (53 : Nat) ({ cls := "ArcCacheModel", name := "old", desc := "(I)I" } : Jvm.MethodName)) ∈ lw_all := lw_g (lw_at lw_m1 209 rfl) rfl
theorem q225 : (Jvm.Cond.privateMethod ({ cls := "ArcCacheModel", name := "old", desc := "(I)I" } : Jvm.MethodName)) ∈ lw_tbl := lw_at lw_m1 210 rfl
theorem q226 : (Jvm.Cond.instanceMethod ({ cls := "ArcCacheModel", name := "old", desc := "(I)I" } : Jvm.MethodName)) ∈ lw_all := lw_g (lw_at lw_m1 211 rfl) rfl
theorem q227 : (Jvm.Cond.code ({ cls := "ArcCacheModel", name := "old", desc := "(I)I" } : Jvm.MethodName) prog_3_method_7_code (2 : Nat) (Option.some Jvm.ClassFile.FieldType.int)) ∈ lw_all := lw_g (lw_at lw_m1 212 rfl) rfl
theorem q228 : (Jvm.Cond.methodLink "ArcCacheModel" (63 : Nat) ({ cls := "ArcCacheModel", name := "makeRoom", desc := "(I)V" } : Jvm.MethodName)) ∈ lw_all := lw_g (lw_at lw_m1 213 rfl) rfl
theorem q229 : (Jvm.Cond.privateMethod ({ cls := "ArcCacheModel", name := "makeRoom", desc := "(I)V" } : Jvm.MethodName)) ∈ lw_tbl := lw_at lw_m1 214 rfl
theorem q230 : (Jvm.Cond.instanceMethod ({ cls := "ArcCacheModel", name := "makeRoom", desc := "(I)V" } : Jvm.MethodName)) ∈ lw_all := lw_g (lw_at lw_m1 215 rfl) rfl
theorem q231 : (Jvm.Cond.code ({ cls := "ArcCacheModel", name := "makeRoom", desc := "(I)V" } : Jvm.MethodName) prog_3_method_10_code (5 : Nat) (Option.none : Option Jvm.ClassFile.FieldType)) ∈ lw_all := lw_g (lw_at lw_m1 216 rfl) rfl
theorem q232 : (Jvm.Cond.methodLink "ArcCacheModel" (56 : Nat) ({ cls := "ArcCacheModel", name := "go", desc := "(I)V" } : Jvm.MethodName)) ∈ lw_all := lw_g (lw_at lw_m1 217 rfl) rfl
theorem q233 : (Jvm.Cond.privateMethod ({ cls := "ArcCacheModel", name := "go", desc := "(I)V" } : Jvm.MethodName)) ∈ lw_tbl := lw_at lw_m1 218 rfl
theorem q234 : (Jvm.Cond.instanceMethod ({ cls := "ArcCacheModel", name := "go", desc := "(I)V" } : Jvm.MethodName)) ∈ lw_all := lw_g (lw_at lw_m1 219 rfl) rfl
theorem q235 : (Jvm.Cond.code ({ cls := "ArcCacheModel", name := "go", desc := "(I)V" } : Jvm.MethodName) prog_3_method_9_code (2 : Nat) (Option.none : Option Jvm.ClassFile.FieldType)) ∈ lw_all := lw_g (lw_at lw_m1 220 rfl) rfl
theorem q236 : (Jvm.Cond.methodLink "ArcCacheModel" (50 : Nat) ({ cls := "ArcCacheModel", name := "clean", desc := "(I)V" } : Jvm.MethodName)) ∈ lw_all := lw_g (lw_at lw_m1 221 rfl) rfl
theorem q237 : (Jvm.Cond.privateMethod ({ cls := "ArcCacheModel", name := "clean", desc := "(I)V" } : Jvm.MethodName)) ∈ lw_tbl := lw_at lw_m1 222 rfl
theorem q238 : (Jvm.Cond.instanceMethod ({ cls := "ArcCacheModel", name := "clean", desc := "(I)V" } : Jvm.MethodName)) ∈ lw_all := lw_g (lw_at lw_m1 223 rfl) rfl
theorem q239 : (Jvm.Cond.code ({ cls := "ArcCacheModel", name := "clean", desc := "(I)V" } : Jvm.MethodName) prog_3_method_8_code (2 : Nat) (Option.none : Option Jvm.ClassFile.FieldType)) ∈ lw_all := lw_g (lw_at lw_m1 224 rfl) rfl
theorem q241 : (Jvm.Cond.instanceMethod ({ cls := "ArcCacheModel", name := "write", desc := "(II)Z" } : Jvm.MethodName)) ∈ lw_all := lw_g (lw_at lw_m1 226 rfl) rfl
theorem q242 : (Jvm.Cond.selects "ArcCacheModel" ({ cls := "ArcCacheModel", name := "write", desc := "(II)Z" } : Jvm.MethodName) ({ cls := "ArcCacheModel", name := "write", desc := "(II)Z" } : Jvm.MethodName)) ∈ lw_all := lw_g (lw_at lw_m1 227 rfl) rfl
theorem q243 : (Jvm.Cond.code ({ cls := "ArcCacheModel", name := "write", desc := "(II)Z" } : Jvm.MethodName) prog_3_method_14_code (3 : Nat) (Option.some Jvm.ClassFile.FieldType.boolean)) ∈ lw_all := lw_g (lw_at lw_m1 228 rfl) rfl
theorem q245 : (Jvm.Cond.instanceMethod ({ cls := "ArcCacheModel", name := "flush", desc := "()I" } : Jvm.MethodName)) ∈ lw_all := lw_g (lw_at lw_m1 230 rfl) rfl
theorem q246 : (Jvm.Cond.selects "ArcCacheModel" ({ cls := "ArcCacheModel", name := "flush", desc := "()I" } : Jvm.MethodName) ({ cls := "ArcCacheModel", name := "flush", desc := "()I" } : Jvm.MethodName)) ∈ lw_all := lw_g (lw_at lw_m1 231 rfl) rfl
theorem q247 : (Jvm.Cond.code ({ cls := "ArcCacheModel", name := "flush", desc := "()I" } : Jvm.MethodName) prog_3_method_15_code (3 : Nat) (Option.some Jvm.ClassFile.FieldType.int)) ∈ lw_all := lw_g (lw_at lw_m1 232 rfl) rfl
theorem q249 : (Jvm.Cond.instanceMethod ({ cls := "ArcCacheModel", name := "at", desc := "(II)I" } : Jvm.MethodName)) ∈ lw_all := lw_g (lw_at lw_m1 234 rfl) rfl
theorem q250 : (Jvm.Cond.selects "ArcCacheModel" ({ cls := "ArcCacheModel", name := "at", desc := "(II)I" } : Jvm.MethodName) ({ cls := "ArcCacheModel", name := "at", desc := "(II)I" } : Jvm.MethodName)) ∈ lw_all := lw_g (lw_at lw_m1 235 rfl) rfl
theorem q251 : (Jvm.Cond.code ({ cls := "ArcCacheModel", name := "at", desc := "(II)I" } : Jvm.MethodName) prog_3_method_16_code (3 : Nat) (Option.some Jvm.ClassFile.FieldType.int)) ∈ lw_all := lw_g (lw_at lw_m1 236 rfl) rfl
theorem q253 : (Jvm.Cond.instanceMethod ({ cls := "ArcCacheModel", name := "length", desc := "(I)I" } : Jvm.MethodName)) ∈ lw_all := lw_g (lw_at lw_m1 238 rfl) rfl
theorem q254 : (Jvm.Cond.selects "ArcCacheModel" ({ cls := "ArcCacheModel", name := "length", desc := "(I)I" } : Jvm.MethodName) ({ cls := "ArcCacheModel", name := "length", desc := "(I)I" } : Jvm.MethodName)) ∈ lw_all := lw_g (lw_at lw_m1 239 rfl) rfl
theorem q255 : (Jvm.Cond.code ({ cls := "ArcCacheModel", name := "length", desc := "(I)I" } : Jvm.MethodName) prog_3_method_17_code (2 : Nat) (Option.some Jvm.ClassFile.FieldType.int)) ∈ lw_all := lw_g (lw_at lw_m2 0 rfl) rfl
theorem q257 : (Jvm.Cond.instanceMethod ({ cls := "ArcCacheModel", name := "target", desc := "()I" } : Jvm.MethodName)) ∈ lw_all := lw_g (lw_at lw_m2 2 rfl) rfl
theorem q258 : (Jvm.Cond.selects "ArcCacheModel" ({ cls := "ArcCacheModel", name := "target", desc := "()I" } : Jvm.MethodName) ({ cls := "ArcCacheModel", name := "target", desc := "()I" } : Jvm.MethodName)) ∈ lw_all := lw_g (lw_at lw_m2 3 rfl) rfl
theorem q259 : (Jvm.Cond.code ({ cls := "ArcCacheModel", name := "target", desc := "()I" } : Jvm.MethodName) prog_3_method_18_code (1 : Nat) (Option.some Jvm.ClassFile.FieldType.int)) ∈ lw_all := lw_g (lw_at lw_m2 4 rfl) rfl
theorem q261 : (Jvm.Cond.instanceMethod ({ cls := "ArcCacheModel", name := "hits", desc := "()I" } : Jvm.MethodName)) ∈ lw_all := lw_g (lw_at lw_m2 6 rfl) rfl
theorem q262 : (Jvm.Cond.selects "ArcCacheModel" ({ cls := "ArcCacheModel", name := "hits", desc := "()I" } : Jvm.MethodName) ({ cls := "ArcCacheModel", name := "hits", desc := "()I" } : Jvm.MethodName)) ∈ lw_all := lw_g (lw_at lw_m2 7 rfl) rfl
theorem q263 : (Jvm.Cond.code ({ cls := "ArcCacheModel", name := "hits", desc := "()I" } : Jvm.MethodName) prog_3_method_19_code (1 : Nat) (Option.some Jvm.ClassFile.FieldType.int)) ∈ lw_all := lw_g (lw_at lw_m2 8 rfl) rfl
theorem q265 : (Jvm.Cond.instanceMethod ({ cls := "ArcCacheModel", name := "misses", desc := "()I" } : Jvm.MethodName)) ∈ lw_all := lw_g (lw_at lw_m2 10 rfl) rfl
theorem q266 : (Jvm.Cond.selects "ArcCacheModel" ({ cls := "ArcCacheModel", name := "misses", desc := "()I" } : Jvm.MethodName) ({ cls := "ArcCacheModel", name := "misses", desc := "()I" } : Jvm.MethodName)) ∈ lw_all := lw_g (lw_at lw_m2 11 rfl) rfl
theorem q267 : (Jvm.Cond.code ({ cls := "ArcCacheModel", name := "misses", desc := "()I" } : Jvm.MethodName) prog_3_method_20_code (1 : Nat) (Option.some Jvm.ClassFile.FieldType.int)) ∈ lw_all := lw_g (lw_at lw_m2 12 rfl) rfl
theorem q269 : (Jvm.Cond.instanceMethod ({ cls := "ArcCacheModel", name := "store", desc := "(I)I" } : Jvm.MethodName)) ∈ lw_all := lw_g (lw_at lw_m2 14 rfl) rfl
theorem q270 : (Jvm.Cond.selects "ArcCacheModel" ({ cls := "ArcCacheModel", name := "store", desc := "(I)I" } : Jvm.MethodName) ({ cls := "ArcCacheModel", name := "store", desc := "(I)I" } : Jvm.MethodName)) ∈ lw_all := lw_g (lw_at lw_m2 15 rfl) rfl
theorem q271 : (Jvm.Cond.code ({ cls := "ArcCacheModel", name := "store", desc := "(I)I" } : Jvm.MethodName) prog_3_method_21_code (2 : Nat) (Option.some Jvm.ClassFile.FieldType.int)) ∈ lw_all := lw_g (lw_at lw_m2 16 rfl) rfl
theorem q273 : (Jvm.Cond.instanceMethod ({ cls := "ArcCacheModel", name := "isDirty", desc := "(I)Z" } : Jvm.MethodName)) ∈ lw_all := lw_g (lw_at lw_m2 18 rfl) rfl
theorem q274 : (Jvm.Cond.selects "ArcCacheModel" ({ cls := "ArcCacheModel", name := "isDirty", desc := "(I)Z" } : Jvm.MethodName) ({ cls := "ArcCacheModel", name := "isDirty", desc := "(I)Z" } : Jvm.MethodName)) ∈ lw_all := lw_g (lw_at lw_m2 19 rfl) rfl
theorem q275 : (Jvm.Cond.code ({ cls := "ArcCacheModel", name := "isDirty", desc := "(I)Z" } : Jvm.MethodName) prog_3_method_22_code (2 : Nat) (Option.some Jvm.ClassFile.FieldType.boolean)) ∈ lw_all := lw_g (lw_at lw_m2 20 rfl) rfl
theorem q277 : (Jvm.Cond.instanceMethod ({ cls := "ArcCacheModel", name := "gone", desc := "()I" } : Jvm.MethodName)) ∈ lw_all := lw_g (lw_at lw_m2 22 rfl) rfl
theorem q278 : (Jvm.Cond.selects "ArcCacheModel" ({ cls := "ArcCacheModel", name := "gone", desc := "()I" } : Jvm.MethodName) ({ cls := "ArcCacheModel", name := "gone", desc := "()I" } : Jvm.MethodName)) ∈ lw_all := lw_g (lw_at lw_m2 23 rfl) rfl
theorem q279 : (Jvm.Cond.code ({ cls := "ArcCacheModel", name := "gone", desc := "()I" } : Jvm.MethodName) prog_3_method_23_code (1 : Nat) (Option.some Jvm.ClassFile.FieldType.int)) ∈ lw_all := lw_g (lw_at lw_m2 24 rfl) rfl
theorem in_X2 : ∀ w ∈ wsX20, w ∈ lw_all := lw_in wsX20 [171, 173, 175, 177, 179, 181, 183, 185, 187, 189] (by decide +kernel) (by decide +kernel)
end
section
/-! java/lang/Object -/
set_option maxRecDepth 100000
def RJ0 : String := "java/lang/Object"
abbrev cJ0_init : ByteArray := object_method_1_code
def yJ0_init : MethodName := ⟨RJ0, "<init>", "()V"⟩
theorem dJ0_init_0 : decode cJ0_init 0 = .ok (.return_, 1) := by decide +kernel
theorem q24 : (Jvm.Cond.instanceMethod ({ cls := "java/lang/Object", name := "<init>", desc := "()V" } : Jvm.MethodName)) ∈ lw_all := lw_g (lw_at lw_m1 9 rfl) rfl
theorem q25 : (Jvm.Cond.code ({ cls := "java/lang/Object", name := "<init>", desc := "()V" } : Jvm.MethodName) object_method_1_code (1 : Nat) (Option.none : Option Jvm.ClassFile.FieldType)) ∈ lw_all := lw_g (lw_at lw_m1 10 rfl) rfl
/-! ArcCacheLaw -/
set_option maxRecDepth 100000
def RX0 : String := "ArcCacheLaw"
abbrev cX0_cell : ByteArray := method_2_code
def yX0_cell : MethodName := ⟨RX0, "cell", "([II)I"⟩
theorem dX0_cell_0 : decode cX0_cell 0 = .ok (.iload_n 1, 1) := by decide +kernel
theorem dX0_cell_1 : decode cX0_cell 1 = .ok (.aload_n 0, 1) := by decide +kernel
theorem dX0_cell_2 : decode cX0_cell 2 = .ok (.arraylength, 1) := by decide +kernel
theorem dX0_cell_3 : decode cX0_cell 3 = .ok (.if_icmp .ge 9, 3) := by decide +kernel
theorem dX0_cell_6 : decode cX0_cell 6 = .ok (.aload_n 0, 1) := by decide +kernel
theorem dX0_cell_7 : decode cX0_cell 7 = .ok (.iload_n 1, 1) := by decide +kernel
theorem dX0_cell_8 : decode cX0_cell 8 = .ok (.iaload, 1) := by decide +kernel
theorem dX0_cell_9 : decode cX0_cell 9 = .ok (.goto 4, 3) := by decide +kernel
theorem dX0_cell_12 : decode cX0_cell 12 = .ok (.iconst 0, 1) := by decide +kernel
theorem dX0_cell_13 : decode cX0_cell 13 = .ok (.ireturn, 1) := by decide +kernel
theorem q15 : (Jvm.Cond.initialized "ArcCacheLaw") ∈ lw_all := lw_g (lw_at lw_m1 0 rfl) rfl
theorem q18 : (Jvm.Cond.classLink "ArcCacheLaw" (7 : Nat) "ArcCache") ∈ lw_all := lw_g (lw_at lw_m1 3 rfl) rfl
theorem q20 : (Jvm.Cond.methodLink "ArcCacheLaw" (15 : Nat) ({ cls := "ArcCache", name := "<init>", desc := "(I)V" } : Jvm.MethodName)) ∈ lw_all := lw_g (lw_at lw_m1 5 rfl) rfl
theorem q69 : (Jvm.Cond.methodLink "ArcCacheLaw" (21 : Nat) ({ cls := "ArcCache", name := "init", desc := "()V" } : Jvm.MethodName)) ∈ lw_all := lw_g (lw_at lw_m1 54 rfl) rfl
theorem q70 : (Jvm.Cond.methodLink "ArcCacheLaw" (25 : Nat) ({ cls := "ArcCache", name := "read", desc := "(I)I" } : Jvm.MethodName)) ∈ lw_all := lw_g (lw_at lw_m1 55 rfl) rfl
theorem q108 : (Jvm.Cond.methodLink "ArcCacheLaw" (30 : Nat) ({ cls := "ArcCache", name := "write", desc := "(II)Z" } : Jvm.MethodName)) ∈ lw_all := lw_g (lw_at lw_m1 93 rfl) rfl
theorem q112 : (Jvm.Cond.methodLink "ArcCacheLaw" (35 : Nat) ({ cls := "ArcCache", name := "flush", desc := "()I" } : Jvm.MethodName)) ∈ lw_all := lw_g (lw_at lw_m1 97 rfl) rfl
theorem q116 : (Jvm.Cond.methodLink "ArcCacheLaw" (40 : Nat) ({ cls := "ArcCache", name := "whichList", desc := "(I)I" } : Jvm.MethodName)) ∈ lw_all := lw_g (lw_at lw_m1 101 rfl) rfl
theorem q120 : (Jvm.Cond.methodLink "ArcCacheLaw" (44 : Nat) ({ cls := "ArcCache", name := "at", desc := "(II)I" } : Jvm.MethodName)) ∈ lw_all := lw_g (lw_at lw_m1 105 rfl) rfl
theorem q124 : (Jvm.Cond.methodLink "ArcCacheLaw" (49 : Nat) ({ cls := "ArcCache", name := "length", desc := "(I)I" } : Jvm.MethodName)) ∈ lw_all := lw_g (lw_at lw_m1 109 rfl) rfl
theorem q128 : (Jvm.Cond.methodLink "ArcCacheLaw" (53 : Nat) ({ cls := "ArcCache", name := "target", desc := "()I" } : Jvm.MethodName)) ∈ lw_all := lw_g (lw_at lw_m1 113 rfl) rfl
theorem q132 : (Jvm.Cond.methodLink "ArcCacheLaw" (57 : Nat) ({ cls := "ArcCache", name := "hits", desc := "()I" } : Jvm.MethodName)) ∈ lw_all := lw_g (lw_at lw_m1 117 rfl) rfl
theorem q136 : (Jvm.Cond.methodLink "ArcCacheLaw" (61 : Nat) ({ cls := "ArcCache", name := "misses", desc := "()I" } : Jvm.MethodName)) ∈ lw_all := lw_g (lw_at lw_m1 121 rfl) rfl
theorem q140 : (Jvm.Cond.methodLink "ArcCacheLaw" (65 : Nat) ({ cls := "ArcCache", name := "store", desc := "(I)I" } : Jvm.MethodName)) ∈ lw_all := lw_g (lw_at lw_m1 125 rfl) rfl
theorem q144 : (Jvm.Cond.methodLink "ArcCacheLaw" (69 : Nat) ({ cls := "ArcCache", name := "isDirty", desc := "(I)Z" } : Jvm.MethodName)) ∈ lw_all := lw_g (lw_at lw_m1 129 rfl) rfl
theorem q148 : (Jvm.Cond.methodLink "ArcCacheLaw" (74 : Nat) ({ cls := "ArcCache", name := "gone", desc := "()I" } : Jvm.MethodName)) ∈ lw_all := lw_g (lw_at lw_m1 133 rfl) rfl
theorem q152 : (Jvm.Cond.methodLink "ArcCacheLaw" (9 : Nat) ({ cls := "ArcCacheLaw", name := "cell", desc := "([II)I" } : Jvm.MethodName)) ∈ lw_all := lw_g (lw_at lw_m1 137 rfl) rfl
theorem q153 : (Jvm.Cond.static ({ cls := "ArcCacheLaw", name := "cell", desc := "([II)I" } : Jvm.MethodName)) ∈ lw_all := lw_g (lw_at lw_m1 138 rfl) rfl
theorem q154 : (Jvm.Cond.code ({ cls := "ArcCacheLaw", name := "cell", desc := "([II)I" } : Jvm.MethodName) method_2_code (2 : Nat) (Option.some Jvm.ClassFile.FieldType.int)) ∈ lw_all := lw_g (lw_at lw_m1 139 rfl) rfl
theorem q155 : (Jvm.Cond.classLink "ArcCacheLaw" (18 : Nat) "ArcCacheModel") ∈ lw_all := lw_g (lw_at lw_m1 140 rfl) rfl
theorem q157 : (Jvm.Cond.methodLink "ArcCacheLaw" (20 : Nat) ({ cls := "ArcCacheModel", name := "<init>", desc := "(I)V" } : Jvm.MethodName)) ∈ lw_all := lw_g (lw_at lw_m1 142 rfl) rfl
theorem q192 : (Jvm.Cond.methodLink "ArcCacheLaw" (24 : Nat) ({ cls := "ArcCacheModel", name := "init", desc := "()V" } : Jvm.MethodName)) ∈ lw_all := lw_g (lw_at lw_m1 177 rfl) rfl
theorem q196 : (Jvm.Cond.methodLink "ArcCacheLaw" (43 : Nat) ({ cls := "ArcCacheModel", name := "whichList", desc := "(I)I" } : Jvm.MethodName)) ∈ lw_all := lw_g (lw_at lw_m1 181 rfl) rfl
theorem q200 : (Jvm.Cond.methodLink "ArcCacheLaw" (29 : Nat) ({ cls := "ArcCacheModel", name := "read", desc := "(I)I" } : Jvm.MethodName)) ∈ lw_all := lw_g (lw_at lw_m1 185 rfl) rfl
theorem q240 : (Jvm.Cond.methodLink "ArcCacheLaw" (34 : Nat) ({ cls := "ArcCacheModel", name := "write", desc := "(II)Z" } : Jvm.MethodName)) ∈ lw_all := lw_g (lw_at lw_m1 225 rfl) rfl
theorem q244 : (Jvm.Cond.methodLink "ArcCacheLaw" (39 : Nat) ({ cls := "ArcCacheModel", name := "flush", desc := "()I" } : Jvm.MethodName)) ∈ lw_all := lw_g (lw_at lw_m1 229 rfl) rfl
theorem q248 : (Jvm.Cond.methodLink "ArcCacheLaw" (48 : Nat) ({ cls := "ArcCacheModel", name := "at", desc := "(II)I" } : Jvm.MethodName)) ∈ lw_all := lw_g (lw_at lw_m1 233 rfl) rfl
theorem q252 : (Jvm.Cond.methodLink "ArcCacheLaw" (52 : Nat) ({ cls := "ArcCacheModel", name := "length", desc := "(I)I" } : Jvm.MethodName)) ∈ lw_all := lw_g (lw_at lw_m1 237 rfl) rfl
theorem q256 : (Jvm.Cond.methodLink "ArcCacheLaw" (56 : Nat) ({ cls := "ArcCacheModel", name := "target", desc := "()I" } : Jvm.MethodName)) ∈ lw_all := lw_g (lw_at lw_m2 1 rfl) rfl
theorem q260 : (Jvm.Cond.methodLink "ArcCacheLaw" (60 : Nat) ({ cls := "ArcCacheModel", name := "hits", desc := "()I" } : Jvm.MethodName)) ∈ lw_all := lw_g (lw_at lw_m2 5 rfl) rfl
theorem q264 : (Jvm.Cond.methodLink "ArcCacheLaw" (64 : Nat) ({ cls := "ArcCacheModel", name := "misses", desc := "()I" } : Jvm.MethodName)) ∈ lw_all := lw_g (lw_at lw_m2 9 rfl) rfl
theorem q268 : (Jvm.Cond.methodLink "ArcCacheLaw" (68 : Nat) ({ cls := "ArcCacheModel", name := "store", desc := "(I)I" } : Jvm.MethodName)) ∈ lw_all := lw_g (lw_at lw_m2 13 rfl) rfl
theorem q272 : (Jvm.Cond.methodLink "ArcCacheLaw" (73 : Nat) ({ cls := "ArcCacheModel", name := "isDirty", desc := "(I)Z" } : Jvm.MethodName)) ∈ lw_all := lw_g (lw_at lw_m2 17 rfl) rfl
theorem q276 : (Jvm.Cond.methodLink "ArcCacheLaw" (77 : Nat) ({ cls := "ArcCacheModel", name := "gone", desc := "()I" } : Jvm.MethodName)) ∈ lw_all := lw_g (lw_at lw_m2 21 rfl) rfl
/-! the law's own entry -/
set_option maxRecDepth 100000
abbrev cL_law : ByteArray := code
theorem dL_law_0 : decode cL_law 0 = .ok (.new 7, 3) := by decide +kernel
theorem dL_law_3 : decode cL_law 3 = .ok (.dup, 1) := by decide +kernel
theorem dL_law_4 : decode cL_law 4 = .ok (.aload_n 0, 1) := by decide +kernel
theorem dL_law_5 : decode cL_law 5 = .ok (.iconst 0, 1) := by decide +kernel
theorem dL_law_6 : decode cL_law 6 = .ok (.invokestatic 9, 3) := by decide +kernel
theorem dL_law_9 : decode cL_law 9 = .ok (.invokespecial 15, 3) := by decide +kernel
theorem dL_law_12 : decode cL_law 12 = .ok (.astore_n 1, 1) := by decide +kernel
theorem dL_law_13 : decode cL_law 13 = .ok (.new 18, 3) := by decide +kernel
theorem dL_law_16 : decode cL_law 16 = .ok (.dup, 1) := by decide +kernel
theorem dL_law_17 : decode cL_law 17 = .ok (.aload_n 0, 1) := by decide +kernel
theorem dL_law_18 : decode cL_law 18 = .ok (.iconst 0, 1) := by decide +kernel
theorem dL_law_19 : decode cL_law 19 = .ok (.invokestatic 9, 3) := by decide +kernel
theorem dL_law_22 : decode cL_law 22 = .ok (.invokespecial 20, 3) := by decide +kernel
theorem dL_law_25 : decode cL_law 25 = .ok (.astore_n 2, 1) := by decide +kernel
theorem dL_law_26 : decode cL_law 26 = .ok (.iconst 1, 1) := by decide +kernel
theorem dL_law_27 : decode cL_law 27 = .ok (.istore_n 3, 1) := by decide +kernel
theorem dL_law_28 : decode cL_law 28 = .ok (.iload_n 3, 1) := by decide +kernel
theorem dL_law_29 : decode cL_law 29 = .ok (.aload_n 0, 1) := by decide +kernel
theorem dL_law_30 : decode cL_law 30 = .ok (.arraylength, 1) := by decide +kernel
theorem dL_law_31 : decode cL_law 31 = .ok (.iconst 3, 1) := by decide +kernel
theorem dL_law_32 : decode cL_law 32 = .ok (.isub, 1) := by decide +kernel
theorem dL_law_33 : decode cL_law 33 = .ok (.if_icmp .gt 338, 3) := by decide +kernel
theorem dL_law_36 : decode cL_law 36 = .ok (.aload_n 0, 1) := by decide +kernel
theorem dL_law_37 : decode cL_law 37 = .ok (.iload_n 3, 1) := by decide +kernel
theorem dL_law_38 : decode cL_law 38 = .ok (.iaload, 1) := by decide +kernel
theorem dL_law_39 : decode cL_law 39 = .ok (.bipush 15, 2) := by decide +kernel
theorem dL_law_41 : decode cL_law 41 = .ok (.iand, 1) := by decide +kernel
theorem dL_law_42 : decode cL_law 42 = .ok (.tableswitch 323 0 12 #[66, 77, 100, 133, 146, 169, 202, 225, 238, 251, 264, 287, 310], 66) := by decide +kernel
theorem dL_law_108 : decode cL_law 108 = .ok (.aload_n 1, 1) := by decide +kernel
theorem dL_law_109 : decode cL_law 109 = .ok (.invokevirtual 21, 3) := by decide +kernel
theorem dL_law_112 : decode cL_law 112 = .ok (.aload_n 2, 1) := by decide +kernel
theorem dL_law_113 : decode cL_law 113 = .ok (.invokevirtual 24, 3) := by decide +kernel
theorem dL_law_116 : decode cL_law 116 = .ok (.goto 249, 3) := by decide +kernel
theorem dL_law_119 : decode cL_law 119 = .ok (.aload_n 1, 1) := by decide +kernel
theorem dL_law_120 : decode cL_law 120 = .ok (.aload_n 0, 1) := by decide +kernel
theorem dL_law_121 : decode cL_law 121 = .ok (.iload_n 3, 1) := by decide +kernel
theorem dL_law_122 : decode cL_law 122 = .ok (.iconst 1, 1) := by decide +kernel
theorem dL_law_123 : decode cL_law 123 = .ok (.iadd, 1) := by decide +kernel
theorem dL_law_124 : decode cL_law 124 = .ok (.iaload, 1) := by decide +kernel
theorem dL_law_125 : decode cL_law 125 = .ok (.invokevirtual 25, 3) := by decide +kernel
theorem dL_law_128 : decode cL_law 128 = .ok (.aload_n 2, 1) := by decide +kernel
theorem dL_law_129 : decode cL_law 129 = .ok (.aload_n 0, 1) := by decide +kernel
theorem dL_law_130 : decode cL_law 130 = .ok (.iload_n 3, 1) := by decide +kernel
theorem dL_law_131 : decode cL_law 131 = .ok (.iconst 1, 1) := by decide +kernel
theorem dL_law_132 : decode cL_law 132 = .ok (.iadd, 1) := by decide +kernel
theorem dL_law_133 : decode cL_law 133 = .ok (.iaload, 1) := by decide +kernel
theorem dL_law_134 : decode cL_law 134 = .ok (.invokevirtual 29, 3) := by decide +kernel
theorem dL_law_137 : decode cL_law 137 = .ok (.if_icmp .eq 228, 3) := by decide +kernel
theorem dL_law_140 : decode cL_law 140 = .ok (.iconst 0, 1) := by decide +kernel
theorem dL_law_141 : decode cL_law 141 = .ok (.ireturn, 1) := by decide +kernel
theorem dL_law_142 : decode cL_law 142 = .ok (.aload_n 1, 1) := by decide +kernel
theorem dL_law_143 : decode cL_law 143 = .ok (.aload_n 0, 1) := by decide +kernel
theorem dL_law_144 : decode cL_law 144 = .ok (.iload_n 3, 1) := by decide +kernel
theorem dL_law_145 : decode cL_law 145 = .ok (.iconst 1, 1) := by decide +kernel
theorem dL_law_146 : decode cL_law 146 = .ok (.iadd, 1) := by decide +kernel
theorem dL_law_147 : decode cL_law 147 = .ok (.iaload, 1) := by decide +kernel
theorem dL_law_148 : decode cL_law 148 = .ok (.aload_n 0, 1) := by decide +kernel
theorem dL_law_149 : decode cL_law 149 = .ok (.iload_n 3, 1) := by decide +kernel
theorem dL_law_150 : decode cL_law 150 = .ok (.iconst 2, 1) := by decide +kernel
theorem dL_law_151 : decode cL_law 151 = .ok (.iadd, 1) := by decide +kernel
theorem dL_law_152 : decode cL_law 152 = .ok (.iaload, 1) := by decide +kernel
theorem dL_law_153 : decode cL_law 153 = .ok (.invokevirtual 30, 3) := by decide +kernel
theorem dL_law_156 : decode cL_law 156 = .ok (.aload_n 2, 1) := by decide +kernel
theorem dL_law_157 : decode cL_law 157 = .ok (.aload_n 0, 1) := by decide +kernel
theorem dL_law_158 : decode cL_law 158 = .ok (.iload_n 3, 1) := by decide +kernel
theorem dL_law_159 : decode cL_law 159 = .ok (.iconst 1, 1) := by decide +kernel
theorem dL_law_160 : decode cL_law 160 = .ok (.iadd, 1) := by decide +kernel
theorem dL_law_161 : decode cL_law 161 = .ok (.iaload, 1) := by decide +kernel
theorem dL_law_162 : decode cL_law 162 = .ok (.aload_n 0, 1) := by decide +kernel
theorem dL_law_163 : decode cL_law 163 = .ok (.iload_n 3, 1) := by decide +kernel
theorem dL_law_164 : decode cL_law 164 = .ok (.iconst 2, 1) := by decide +kernel
theorem dL_law_165 : decode cL_law 165 = .ok (.iadd, 1) := by decide +kernel
theorem dL_law_166 : decode cL_law 166 = .ok (.iaload, 1) := by decide +kernel
theorem dL_law_167 : decode cL_law 167 = .ok (.invokevirtual 34, 3) := by decide +kernel
theorem dL_law_170 : decode cL_law 170 = .ok (.if_icmp .eq 195, 3) := by decide +kernel
theorem dL_law_173 : decode cL_law 173 = .ok (.iconst 0, 1) := by decide +kernel
theorem dL_law_174 : decode cL_law 174 = .ok (.ireturn, 1) := by decide +kernel
theorem dL_law_175 : decode cL_law 175 = .ok (.aload_n 1, 1) := by decide +kernel
theorem dL_law_176 : decode cL_law 176 = .ok (.invokevirtual 35, 3) := by decide +kernel
theorem dL_law_179 : decode cL_law 179 = .ok (.aload_n 2, 1) := by decide +kernel
theorem dL_law_180 : decode cL_law 180 = .ok (.invokevirtual 39, 3) := by decide +kernel
theorem dL_law_183 : decode cL_law 183 = .ok (.if_icmp .eq 182, 3) := by decide +kernel
theorem dL_law_186 : decode cL_law 186 = .ok (.iconst 0, 1) := by decide +kernel
theorem dL_law_187 : decode cL_law 187 = .ok (.ireturn, 1) := by decide +kernel
theorem dL_law_188 : decode cL_law 188 = .ok (.aload_n 1, 1) := by decide +kernel
theorem dL_law_189 : decode cL_law 189 = .ok (.aload_n 0, 1) := by decide +kernel
theorem dL_law_190 : decode cL_law 190 = .ok (.iload_n 3, 1) := by decide +kernel
theorem dL_law_191 : decode cL_law 191 = .ok (.iconst 1, 1) := by decide +kernel
theorem dL_law_192 : decode cL_law 192 = .ok (.iadd, 1) := by decide +kernel
theorem dL_law_193 : decode cL_law 193 = .ok (.iaload, 1) := by decide +kernel
theorem dL_law_194 : decode cL_law 194 = .ok (.invokevirtual 40, 3) := by decide +kernel
theorem dL_law_197 : decode cL_law 197 = .ok (.aload_n 2, 1) := by decide +kernel
theorem dL_law_198 : decode cL_law 198 = .ok (.aload_n 0, 1) := by decide +kernel
theorem dL_law_199 : decode cL_law 199 = .ok (.iload_n 3, 1) := by decide +kernel
theorem dL_law_200 : decode cL_law 200 = .ok (.iconst 1, 1) := by decide +kernel
theorem dL_law_201 : decode cL_law 201 = .ok (.iadd, 1) := by decide +kernel
theorem dL_law_202 : decode cL_law 202 = .ok (.iaload, 1) := by decide +kernel
theorem dL_law_203 : decode cL_law 203 = .ok (.invokevirtual 43, 3) := by decide +kernel
theorem dL_law_206 : decode cL_law 206 = .ok (.if_icmp .eq 159, 3) := by decide +kernel
theorem dL_law_209 : decode cL_law 209 = .ok (.iconst 0, 1) := by decide +kernel
theorem dL_law_210 : decode cL_law 210 = .ok (.ireturn, 1) := by decide +kernel
theorem dL_law_211 : decode cL_law 211 = .ok (.aload_n 1, 1) := by decide +kernel
theorem dL_law_212 : decode cL_law 212 = .ok (.aload_n 0, 1) := by decide +kernel
theorem dL_law_213 : decode cL_law 213 = .ok (.iload_n 3, 1) := by decide +kernel
theorem dL_law_214 : decode cL_law 214 = .ok (.iconst 1, 1) := by decide +kernel
theorem dL_law_215 : decode cL_law 215 = .ok (.iadd, 1) := by decide +kernel
theorem dL_law_216 : decode cL_law 216 = .ok (.iaload, 1) := by decide +kernel
theorem dL_law_217 : decode cL_law 217 = .ok (.aload_n 0, 1) := by decide +kernel
theorem dL_law_218 : decode cL_law 218 = .ok (.iload_n 3, 1) := by decide +kernel
theorem dL_law_219 : decode cL_law 219 = .ok (.iconst 2, 1) := by decide +kernel
theorem dL_law_220 : decode cL_law 220 = .ok (.iadd, 1) := by decide +kernel
theorem dL_law_221 : decode cL_law 221 = .ok (.iaload, 1) := by decide +kernel
theorem dL_law_222 : decode cL_law 222 = .ok (.invokevirtual 44, 3) := by decide +kernel
theorem dL_law_225 : decode cL_law 225 = .ok (.aload_n 2, 1) := by decide +kernel
theorem dL_law_226 : decode cL_law 226 = .ok (.aload_n 0, 1) := by decide +kernel
theorem dL_law_227 : decode cL_law 227 = .ok (.iload_n 3, 1) := by decide +kernel
theorem dL_law_228 : decode cL_law 228 = .ok (.iconst 1, 1) := by decide +kernel
theorem dL_law_229 : decode cL_law 229 = .ok (.iadd, 1) := by decide +kernel
theorem dL_law_230 : decode cL_law 230 = .ok (.iaload, 1) := by decide +kernel
theorem dL_law_231 : decode cL_law 231 = .ok (.aload_n 0, 1) := by decide +kernel
theorem dL_law_232 : decode cL_law 232 = .ok (.iload_n 3, 1) := by decide +kernel
theorem dL_law_233 : decode cL_law 233 = .ok (.iconst 2, 1) := by decide +kernel
theorem dL_law_234 : decode cL_law 234 = .ok (.iadd, 1) := by decide +kernel
theorem dL_law_235 : decode cL_law 235 = .ok (.iaload, 1) := by decide +kernel
theorem dL_law_236 : decode cL_law 236 = .ok (.invokevirtual 48, 3) := by decide +kernel
theorem dL_law_239 : decode cL_law 239 = .ok (.if_icmp .eq 126, 3) := by decide +kernel
theorem dL_law_242 : decode cL_law 242 = .ok (.iconst 0, 1) := by decide +kernel
theorem dL_law_243 : decode cL_law 243 = .ok (.ireturn, 1) := by decide +kernel
theorem dL_law_244 : decode cL_law 244 = .ok (.aload_n 1, 1) := by decide +kernel
theorem dL_law_245 : decode cL_law 245 = .ok (.aload_n 0, 1) := by decide +kernel
theorem dL_law_246 : decode cL_law 246 = .ok (.iload_n 3, 1) := by decide +kernel
theorem dL_law_247 : decode cL_law 247 = .ok (.iconst 1, 1) := by decide +kernel
theorem dL_law_248 : decode cL_law 248 = .ok (.iadd, 1) := by decide +kernel
theorem dL_law_249 : decode cL_law 249 = .ok (.iaload, 1) := by decide +kernel
theorem dL_law_250 : decode cL_law 250 = .ok (.invokevirtual 49, 3) := by decide +kernel
theorem dL_law_253 : decode cL_law 253 = .ok (.aload_n 2, 1) := by decide +kernel
theorem dL_law_254 : decode cL_law 254 = .ok (.aload_n 0, 1) := by decide +kernel
theorem dL_law_255 : decode cL_law 255 = .ok (.iload_n 3, 1) := by decide +kernel
theorem dL_law_256 : decode cL_law 256 = .ok (.iconst 1, 1) := by decide +kernel
theorem dL_law_257 : decode cL_law 257 = .ok (.iadd, 1) := by decide +kernel
theorem dL_law_258 : decode cL_law 258 = .ok (.iaload, 1) := by decide +kernel
theorem dL_law_259 : decode cL_law 259 = .ok (.invokevirtual 52, 3) := by decide +kernel
theorem dL_law_262 : decode cL_law 262 = .ok (.if_icmp .eq 103, 3) := by decide +kernel
theorem dL_law_265 : decode cL_law 265 = .ok (.iconst 0, 1) := by decide +kernel
theorem dL_law_266 : decode cL_law 266 = .ok (.ireturn, 1) := by decide +kernel
theorem dL_law_267 : decode cL_law 267 = .ok (.aload_n 1, 1) := by decide +kernel
theorem dL_law_268 : decode cL_law 268 = .ok (.invokevirtual 53, 3) := by decide +kernel
theorem dL_law_271 : decode cL_law 271 = .ok (.aload_n 2, 1) := by decide +kernel
theorem dL_law_272 : decode cL_law 272 = .ok (.invokevirtual 56, 3) := by decide +kernel
theorem dL_law_275 : decode cL_law 275 = .ok (.if_icmp .eq 90, 3) := by decide +kernel
theorem dL_law_278 : decode cL_law 278 = .ok (.iconst 0, 1) := by decide +kernel
theorem dL_law_279 : decode cL_law 279 = .ok (.ireturn, 1) := by decide +kernel
theorem dL_law_280 : decode cL_law 280 = .ok (.aload_n 1, 1) := by decide +kernel
theorem dL_law_281 : decode cL_law 281 = .ok (.invokevirtual 57, 3) := by decide +kernel
theorem dL_law_284 : decode cL_law 284 = .ok (.aload_n 2, 1) := by decide +kernel
theorem dL_law_285 : decode cL_law 285 = .ok (.invokevirtual 60, 3) := by decide +kernel
theorem dL_law_288 : decode cL_law 288 = .ok (.if_icmp .eq 77, 3) := by decide +kernel
theorem dL_law_291 : decode cL_law 291 = .ok (.iconst 0, 1) := by decide +kernel
theorem dL_law_292 : decode cL_law 292 = .ok (.ireturn, 1) := by decide +kernel
theorem dL_law_293 : decode cL_law 293 = .ok (.aload_n 1, 1) := by decide +kernel
theorem dL_law_294 : decode cL_law 294 = .ok (.invokevirtual 61, 3) := by decide +kernel
theorem dL_law_297 : decode cL_law 297 = .ok (.aload_n 2, 1) := by decide +kernel
theorem dL_law_298 : decode cL_law 298 = .ok (.invokevirtual 64, 3) := by decide +kernel
theorem dL_law_301 : decode cL_law 301 = .ok (.if_icmp .eq 64, 3) := by decide +kernel
theorem dL_law_304 : decode cL_law 304 = .ok (.iconst 0, 1) := by decide +kernel
theorem dL_law_305 : decode cL_law 305 = .ok (.ireturn, 1) := by decide +kernel
theorem dL_law_306 : decode cL_law 306 = .ok (.aload_n 1, 1) := by decide +kernel
theorem dL_law_307 : decode cL_law 307 = .ok (.aload_n 0, 1) := by decide +kernel
theorem dL_law_308 : decode cL_law 308 = .ok (.iload_n 3, 1) := by decide +kernel
theorem dL_law_309 : decode cL_law 309 = .ok (.iconst 1, 1) := by decide +kernel
theorem dL_law_310 : decode cL_law 310 = .ok (.iadd, 1) := by decide +kernel
theorem dL_law_311 : decode cL_law 311 = .ok (.iaload, 1) := by decide +kernel
theorem dL_law_312 : decode cL_law 312 = .ok (.invokevirtual 65, 3) := by decide +kernel
theorem dL_law_315 : decode cL_law 315 = .ok (.aload_n 2, 1) := by decide +kernel
theorem dL_law_316 : decode cL_law 316 = .ok (.aload_n 0, 1) := by decide +kernel
theorem dL_law_317 : decode cL_law 317 = .ok (.iload_n 3, 1) := by decide +kernel
theorem dL_law_318 : decode cL_law 318 = .ok (.iconst 1, 1) := by decide +kernel
theorem dL_law_319 : decode cL_law 319 = .ok (.iadd, 1) := by decide +kernel
theorem dL_law_320 : decode cL_law 320 = .ok (.iaload, 1) := by decide +kernel
theorem dL_law_321 : decode cL_law 321 = .ok (.invokevirtual 68, 3) := by decide +kernel
theorem dL_law_324 : decode cL_law 324 = .ok (.if_icmp .eq 41, 3) := by decide +kernel
theorem dL_law_327 : decode cL_law 327 = .ok (.iconst 0, 1) := by decide +kernel
theorem dL_law_328 : decode cL_law 328 = .ok (.ireturn, 1) := by decide +kernel
theorem dL_law_329 : decode cL_law 329 = .ok (.aload_n 1, 1) := by decide +kernel
theorem dL_law_330 : decode cL_law 330 = .ok (.aload_n 0, 1) := by decide +kernel
theorem dL_law_331 : decode cL_law 331 = .ok (.iload_n 3, 1) := by decide +kernel
theorem dL_law_332 : decode cL_law 332 = .ok (.iconst 1, 1) := by decide +kernel
theorem dL_law_333 : decode cL_law 333 = .ok (.iadd, 1) := by decide +kernel
theorem dL_law_334 : decode cL_law 334 = .ok (.iaload, 1) := by decide +kernel
theorem dL_law_335 : decode cL_law 335 = .ok (.invokevirtual 69, 3) := by decide +kernel
theorem dL_law_338 : decode cL_law 338 = .ok (.aload_n 2, 1) := by decide +kernel
theorem dL_law_339 : decode cL_law 339 = .ok (.aload_n 0, 1) := by decide +kernel
theorem dL_law_340 : decode cL_law 340 = .ok (.iload_n 3, 1) := by decide +kernel
theorem dL_law_341 : decode cL_law 341 = .ok (.iconst 1, 1) := by decide +kernel
theorem dL_law_342 : decode cL_law 342 = .ok (.iadd, 1) := by decide +kernel
theorem dL_law_343 : decode cL_law 343 = .ok (.iaload, 1) := by decide +kernel
theorem dL_law_344 : decode cL_law 344 = .ok (.invokevirtual 73, 3) := by decide +kernel
theorem dL_law_347 : decode cL_law 347 = .ok (.if_icmp .eq 18, 3) := by decide +kernel
theorem dL_law_350 : decode cL_law 350 = .ok (.iconst 0, 1) := by decide +kernel
theorem dL_law_351 : decode cL_law 351 = .ok (.ireturn, 1) := by decide +kernel
theorem dL_law_352 : decode cL_law 352 = .ok (.aload_n 1, 1) := by decide +kernel
theorem dL_law_353 : decode cL_law 353 = .ok (.invokevirtual 74, 3) := by decide +kernel
theorem dL_law_356 : decode cL_law 356 = .ok (.aload_n 2, 1) := by decide +kernel
theorem dL_law_357 : decode cL_law 357 = .ok (.invokevirtual 77, 3) := by decide +kernel
theorem dL_law_360 : decode cL_law 360 = .ok (.if_icmp .eq 5, 3) := by decide +kernel
theorem dL_law_363 : decode cL_law 363 = .ok (.iconst 0, 1) := by decide +kernel
theorem dL_law_364 : decode cL_law 364 = .ok (.ireturn, 1) := by decide +kernel
theorem dL_law_365 : decode cL_law 365 = .ok (.iinc 3 3, 3) := by decide +kernel
theorem dL_law_368 : decode cL_law 368 = .ok (.goto (-340), 3) := by decide +kernel
theorem dL_law_371 : decode cL_law 371 = .ok (.iconst 1, 1) := by decide +kernel
theorem dL_law_372 : decode cL_law 372 = .ok (.ireturn, 1) := by decide +kernel
theorem q67 : (Jvm.Cond.arrayClass Jvm.ClassFile.FieldType.int) ∈ lw_all := lw_g (lw_at lw_m1 52 rfl) rfl
set_option maxRecDepth 100000
theorem q68 : (Jvm.Cond.arrayClass Jvm.ClassFile.FieldType.boolean) ∈ lw_all := lw_g (lw_at lw_m1 53 rfl) rfl
end
section
/-! ROWS: instructions on ints that are numbers (nI), on arrays at such places -/
section QR
variable {p : Program} {l : Launch} {e : Env} {R : Room} {s : State} {m : MethodId} {args : Array Value} {below : List Frame} {meth : Method} {c : Code} {H : Heap} {locs : List Loc} {cells slots : Nat} {Q : State → Prop}
variable {cc : ByteArray} {pc : Nat} {ls : Array Slot} {rest : List Value} {D : va_G} {cl : List vw_C} {tys : List (ClassId × FieldType)} {ws : va_W} {A : Nat → Prop} {H0 : Heap} {a : Nat}
theorem q_top {x y : Int32} (h : x = y) (k : W p l e R s m args below meth c H locs cells slots Q (F0 m pc ls (.int y :: rest))) : W p l e R s m args below meth c H locs cells slots Q (F0 m pc ls (.int x :: rest)) := by
  rw [h]; exact k
theorem q_iald (hexec : p.tables.exec = Jvm.exec) (hb : c.code = cc) (hK : va_K D cl tys s) (hP : va_P D cl ws H) (q0 t0 : Nat) {cA : ClassId} {n : Nat} {f : Nat → Int32} (ha : ws[q0]? = some (a, .inl (cA, n, .inl f))) (ht : tys[t0]? = some (cA, .int)) {j : Nat} {v : Int32} (hj : j < n) (hn : n < 2 ^ 31) (hv : f j = v) (hdg : decode cc pc = .ok (.iaload, 1))
    (kk : W p l e R s m args below meth c H locs cells slots Q (F0 m (pc + 1) ls (.int v :: rest))) : W p l e R s m args below meth c H locs cells slots Q (F0 m pc ls (.int (nI j) :: .ref a :: rest)) := by
  refine va_iald hexec hb hK hP q0 t0 ha ht (vp_in_nI hj hn) hdg ?_
  rw [nI_clamp (Nat.lt_trans hj hn), hv]
  exact kk
theorem q_zald (hexec : p.tables.exec = Jvm.exec) (hb : c.code = cc) (hK : va_K D cl tys s) (hP : va_P D cl ws H) (q0 t0 : Nat) {cA : ClassId} {n : Nat} {f : Nat → Int32} (ha : ws[q0]? = some (a, .inl (cA, n, .inl f))) (ht : tys[t0]? = some (cA, .boolean)) {j : Nat} {v : Int32} (hj : j < n) (hn : n < 2 ^ 31) (hv : f j = v) (hdg : decode cc pc = .ok (.baload, 1))
    (kk : W p l e R s m args below meth c H locs cells slots Q (F0 m (pc + 1) ls (.int v :: rest))) : W p l e R s m args below meth c H locs cells slots Q (F0 m pc ls (.int (nI j) :: .ref a :: rest)) := by
  refine va_zald hexec hb hK hP q0 t0 ha ht (vp_in_nI hj hn) hdg ?_
  rw [nI_clamp (Nat.lt_trans hj hn), hv]
  exact kk
theorem q_iast (hexec : p.tables.exec = Jvm.exec) (hb : c.code = cc) (hK : va_K D cl tys s) (hP : va_P D cl ws H) (hD : va_D A ws) (hS : va_S A H0 H locs) (q0 t0 : Nat) {cA : ClassId} {n : Nat} {f : Nat → Int32} (ha : ws[q0]? = some (a, .inl (cA, n, .inl f))) (ht : tys[t0]? = some (cA, .int)) {j : Nat} {x : Int32} {g : Nat → Int32} (hj : j < n) (hn : n < 2 ^ 31) (hg : upd f j x = g) (hdg : decode cc pc = .ok (.iastore, 1))
    (kk : ∀ (H1 : Heap) (locs1 : List Loc), va_P D cl (ws.set q0 (a, .inl (cA, n, .inl g))) H1 → va_D A (ws.set q0 (a, .inl (cA, n, .inl g))) → va_S A H0 H1 locs1 → W p l e R s m args below meth c H1 locs1 cells slots Q (F0 m (pc + 1) ls rest)) : W p l e R s m args below meth c H locs cells slots Q (F0 m pc ls (.int x :: .int (nI j) :: .ref a :: rest)) := by
  refine va_iast hexec hb hK hP hD hS q0 t0 ha ht (vp_in_nI hj hn) hdg ?_
  rw [nI_clamp (Nat.lt_trans hj hn), hg]
  exact kk
theorem q_zast (hexec : p.tables.exec = Jvm.exec) (hb : c.code = cc) (hK : va_K D cl tys s) (hP : va_P D cl ws H) (hD : va_D A ws) (hS : va_S A H0 H locs) (q0 t0 : Nat) {cA : ClassId} {n : Nat} {f : Nat → Int32} (ha : ws[q0]? = some (a, .inl (cA, n, .inl f))) (ht : tys[t0]? = some (cA, .boolean)) {j : Nat} {x : Int32} {g : Nat → Int32} (hj : j < n) (hn : n < 2 ^ 31) (hx : vp_nar .boolean x = x) (hg : upd f j x = g) (hdg : decode cc pc = .ok (.bastore, 1))
    (kk : ∀ (H1 : Heap) (locs1 : List Loc), va_P D cl (ws.set q0 (a, .inl (cA, n, .inl g))) H1 → va_D A (ws.set q0 (a, .inl (cA, n, .inl g))) → va_S A H0 H1 locs1 → W p l e R s m args below meth c H1 locs1 cells slots Q (F0 m (pc + 1) ls rest)) : W p l e R s m args below meth c H locs cells slots Q (F0 m pc ls (.int x :: .int (nI j) :: .ref a :: rest)) := by
  refine va_zast hexec hb hK hP hD hS q0 t0 ha ht (vp_in_nI hj hn) hdg ?_
  rw [nI_clamp (Nat.lt_trans hj hn), hx, hg]
  exact kk
theorem q_iadd (hexec : p.tables.exec = Jvm.exec) (hb : c.code = cc) {x y : Nat} (hdg : decode cc pc = .ok (.iadd, 1))
    (k : W p l e R s m args below meth c H locs cells slots Q (F0 m (pc + 1) ls (.int (nI (x + y)) :: rest))) : W p l e R s m args below meth c H locs cells slots Q (F0 m pc ls (.int (nI y) :: .int (nI x) :: rest)) := by
  refine lv_iadd hexec hb hdg ?_
  rw [nI_add]
  exact k
theorem q_isub (hexec : p.tables.exec = Jvm.exec) (hb : c.code = cc) {x y : Nat} (h : y ≤ x) (hdg : decode cc pc = .ok (.isub, 1))
    (k : W p l e R s m args below meth c H locs cells slots Q (F0 m (pc + 1) ls (.int (nI (x - y)) :: rest))) : W p l e R s m args below meth c H locs cells slots Q (F0 m pc ls (.int (nI y) :: .int (nI x) :: rest)) := by
  refine lv_isub hexec hb hdg ?_
  rw [pk_sub h]
  exact k
theorem q_imul (hexec : p.tables.exec = Jvm.exec) (hb : c.code = cc) {x y : Nat} (hdg : decode cc pc = .ok (.imul, 1))
    (k : W p l e R s m args below meth c H locs cells slots Q (F0 m (pc + 1) ls (.int (nI (x * y)) :: rest))) : W p l e R s m args below meth c H locs cells slots Q (F0 m pc ls (.int (nI y) :: .int (nI x) :: rest)) := by
  refine lv_imul hexec hb hdg ?_
  rw [pk_mul]
  exact k
theorem q_idiv (hexec : p.tables.exec = Jvm.exec) (hb : c.code = cc) {x y : Nat} (hx : x < 2 ^ 31) (h0 : 0 < y) (hy : y < 2 ^ 31) (hdg : decode cc pc = .ok (.idiv, 1))
    (k : W p l e R s m args below meth c H locs cells slots Q (F0 m (pc + 1) ls (.int (nI (x / y)) :: rest))) : W p l e R s m args below meth c H locs cells slots Q (F0 m pc ls (.int (nI y) :: .int (nI x) :: rest)) := by
  refine lv_idiv hexec hb hdg (nI_ne0 h0 hy) ?_
  rw [pk_div hx h0 hy]
  exact k
theorem q_icmp_ge (hexec : p.tables.exec = Jvm.exec) (hb : c.code = cc) {x y : Nat} {off : Int} {tgt : Nat} (hx : x < 2 ^ 31) (hy : y < 2 ^ 31) (hdg : decode cc pc = .ok (.if_icmp .ge off, 3)) (ht : (pc : Int) + off = (tgt : Int))
    (kt : y ≤ x → W p l e R s m args below meth c H locs cells slots Q (F0 m tgt ls rest)) (kf : x < y → W p l e R s m args below meth c H locs cells slots Q (F0 m (pc + 3) ls rest)) : W p l e R s m args below meth c H locs cells slots Q (F0 m pc ls (.int (nI y) :: .int (nI x) :: rest)) :=
  lv_icmp_ge hexec hb hdg ht (fun h => kt ((nI_leI hy hx).mp h)) (fun h => kf (Nat.lt_of_not_le (fun q => h ((nI_leI hy hx).mpr q))))
theorem q_icmp_gt (hexec : p.tables.exec = Jvm.exec) (hb : c.code = cc) {x y : Nat} {off : Int} {tgt : Nat} (hx : x < 2 ^ 31) (hy : y < 2 ^ 31) (hdg : decode cc pc = .ok (.if_icmp .gt off, 3)) (ht : (pc : Int) + off = (tgt : Int))
    (kt : y < x → W p l e R s m args below meth c H locs cells slots Q (F0 m tgt ls rest)) (kf : x ≤ y → W p l e R s m args below meth c H locs cells slots Q (F0 m (pc + 3) ls rest)) : W p l e R s m args below meth c H locs cells slots Q (F0 m pc ls (.int (nI y) :: .int (nI x) :: rest)) :=
  lv_icmp_gt hexec hb hdg ht (fun h => kt ((nI_ltI hy hx).mp h)) (fun h => kf (Nat.le_of_not_lt (fun q => h ((nI_ltI hy hx).mpr q))))
theorem q_icmp_lt (hexec : p.tables.exec = Jvm.exec) (hb : c.code = cc) {x y : Nat} {off : Int} {tgt : Nat} (hx : x < 2 ^ 31) (hy : y < 2 ^ 31) (hdg : decode cc pc = .ok (.if_icmp .lt off, 3)) (ht : (pc : Int) + off = (tgt : Int))
    (kt : x < y → W p l e R s m args below meth c H locs cells slots Q (F0 m tgt ls rest)) (kf : y ≤ x → W p l e R s m args below meth c H locs cells slots Q (F0 m (pc + 3) ls rest)) : W p l e R s m args below meth c H locs cells slots Q (F0 m pc ls (.int (nI y) :: .int (nI x) :: rest)) :=
  lv_icmp_lt hexec hb hdg ht (fun h => kt ((nI_ltI hx hy).mp h)) (fun h => kf (Nat.le_of_not_lt (fun q => h ((nI_ltI hx hy).mpr q))))
theorem q_icmp_le (hexec : p.tables.exec = Jvm.exec) (hb : c.code = cc) {x y : Nat} {off : Int} {tgt : Nat} (hx : x < 2 ^ 31) (hy : y < 2 ^ 31) (hdg : decode cc pc = .ok (.if_icmp .le off, 3)) (ht : (pc : Int) + off = (tgt : Int))
    (kt : x ≤ y → W p l e R s m args below meth c H locs cells slots Q (F0 m tgt ls rest)) (kf : y < x → W p l e R s m args below meth c H locs cells slots Q (F0 m (pc + 3) ls rest)) : W p l e R s m args below meth c H locs cells slots Q (F0 m pc ls (.int (nI y) :: .int (nI x) :: rest)) :=
  lv_icmp_le hexec hb hdg ht (fun h => kt ((nI_leI hx hy).mp h)) (fun h => kf (Nat.lt_of_not_le (fun q => h ((nI_leI hx hy).mpr q))))
theorem q_icmp_eq (hexec : p.tables.exec = Jvm.exec) (hb : c.code = cc) {x y : Nat} {off : Int} {tgt : Nat} (hx : x < 2 ^ 31) (hy : y < 2 ^ 31) (hdg : decode cc pc = .ok (.if_icmp .eq off, 3)) (ht : (pc : Int) + off = (tgt : Int))
    (kt : x = y → W p l e R s m args below meth c H locs cells slots Q (F0 m tgt ls rest)) (kf : ¬ x = y → W p l e R s m args below meth c H locs cells slots Q (F0 m (pc + 3) ls rest)) : W p l e R s m args below meth c H locs cells slots Q (F0 m pc ls (.int (nI y) :: .int (nI x) :: rest)) :=
  lv_icmp_eq hexec hb hdg ht (fun h => kt ((nI_eq hx hy).mp h)) (fun h => kf (fun q => h ((nI_eq hx hy).mpr q)))
theorem q_icmp_ne (hexec : p.tables.exec = Jvm.exec) (hb : c.code = cc) {x y : Nat} {off : Int} {tgt : Nat} (hx : x < 2 ^ 31) (hy : y < 2 ^ 31) (hdg : decode cc pc = .ok (.if_icmp .ne off, 3)) (ht : (pc : Int) + off = (tgt : Int))
    (kt : ¬ x = y → W p l e R s m args below meth c H locs cells slots Q (F0 m tgt ls rest)) (kf : x = y → W p l e R s m args below meth c H locs cells slots Q (F0 m (pc + 3) ls rest)) : W p l e R s m args below meth c H locs cells slots Q (F0 m pc ls (.int (nI y) :: .int (nI x) :: rest)) :=
  lv_icmp_ne hexec hb hdg ht (fun h => kt (fun q => h ((nI_eq hx hy).mpr q))) (fun h => kf ((nI_eq hx hy).mp h))
theorem q_n0 {x : Nat} (hx : x < 2 ^ 31) : nI x = 0 ↔ x = 0 := by
  rw [← nI_0]
  exact nI_eq hx (by decide)
theorem q_if_eq (hexec : p.tables.exec = Jvm.exec) (hb : c.code = cc) {x : Nat} {off : Int} {tgt : Nat} (hx : x < 2 ^ 31) (hdg : decode cc pc = .ok (.ifCond .eq off, 3)) (ht : (pc : Int) + off = (tgt : Int))
    (kt : x = 0 → W p l e R s m args below meth c H locs cells slots Q (F0 m tgt ls rest)) (kf : ¬ x = 0 → W p l e R s m args below meth c H locs cells slots Q (F0 m (pc + 3) ls rest)) : W p l e R s m args below meth c H locs cells slots Q (F0 m pc ls (.int (nI x) :: rest)) :=
  lv_if_eq hexec hb hdg ht (fun h => kt ((q_n0 hx).mp h)) (fun h => kf (fun q => h ((q_n0 hx).mpr q)))
theorem q_if_ne (hexec : p.tables.exec = Jvm.exec) (hb : c.code = cc) {x : Nat} {off : Int} {tgt : Nat} (hx : x < 2 ^ 31) (hdg : decode cc pc = .ok (.ifCond .ne off, 3)) (ht : (pc : Int) + off = (tgt : Int))
    (kt : ¬ x = 0 → W p l e R s m args below meth c H locs cells slots Q (F0 m tgt ls rest)) (kf : x = 0 → W p l e R s m args below meth c H locs cells slots Q (F0 m (pc + 3) ls rest)) : W p l e R s m args below meth c H locs cells slots Q (F0 m pc ls (.int (nI x) :: rest)) :=
  lv_if_ne hexec hb hdg ht (fun h => kt (fun q => h ((q_n0 hx).mpr q))) (fun h => kf ((q_n0 hx).mp h))
theorem q_if_le (hexec : p.tables.exec = Jvm.exec) (hb : c.code = cc) {x : Nat} {off : Int} {tgt : Nat} (hx : x < 2 ^ 31) (hdg : decode cc pc = .ok (.ifCond .le off, 3)) (ht : (pc : Int) + off = (tgt : Int))
    (kt : x = 0 → W p l e R s m args below meth c H locs cells slots Q (F0 m tgt ls rest)) (kf : 0 < x → W p l e R s m args below meth c H locs cells slots Q (F0 m (pc + 3) ls rest)) : W p l e R s m args below meth c H locs cells slots Q (F0 m pc ls (.int (nI x) :: rest)) :=
  lv_if_le hexec hb hdg ht (fun h => kt (Nat.eq_zero_of_not_pos (fun q => nI_nle q hx h))) (fun h => kf (Nat.pos_of_ne_zero (fun q => h (by rw [q, nI_0]; decide))))
/-- a boolean's bit, as an int of 0 or not -/
theorem q_bf_eq (hexec : p.tables.exec = Jvm.exec) (hb : c.code = cc) {x : Int32} {off : Int} {tgt : Nat} (hdg : decode cc pc = .ok (.ifCond .eq off, 3)) (ht : (pc : Int) + off = (tgt : Int))
    (kt : x = nI 0 → W p l e R s m args below meth c H locs cells slots Q (F0 m tgt ls rest)) (kf : ¬ x = nI 0 → W p l e R s m args below meth c H locs cells slots Q (F0 m (pc + 3) ls rest)) : W p l e R s m args below meth c H locs cells slots Q (F0 m pc ls (.int x :: rest)) :=
  lv_if_eq hexec hb hdg ht (fun h => kt (by rw [nI_0]; exact h)) (fun h => kf (by rw [nI_0]; exact h))
theorem q_bf_ne (hexec : p.tables.exec = Jvm.exec) (hb : c.code = cc) {x : Int32} {off : Int} {tgt : Nat} (hdg : decode cc pc = .ok (.ifCond .ne off, 3)) (ht : (pc : Int) + off = (tgt : Int))
    (kt : ¬ x = nI 0 → W p l e R s m args below meth c H locs cells slots Q (F0 m tgt ls rest)) (kf : x = nI 0 → W p l e R s m args below meth c H locs cells slots Q (F0 m (pc + 3) ls rest)) : W p l e R s m args below meth c H locs cells slots Q (F0 m pc ls (.int x :: rest)) :=
  lv_if_ne hexec hb hdg ht (fun h => kt (by rw [nI_0]; exact h)) (fun h => kf (by rw [nI_0]; exact h))
end QR
theorem q_inc1 (i : Nat) : nI i + Int32.ofInt 1 = nI (i + 1) := nI_1 i
theorem q_inc3 (i : Nat) : nI i + Int32.ofInt 3 = nI (i + 3) := nI_add i 3
theorem q_dec1 (i : Nat) : nI (i + 1) + Int32.ofInt (-1) = nI i := pk_m1 i
theorem q_b31 {x : Nat} (h : x < 1000) : x < 2 ^ 31 := Nat.lt_trans h (by decide)
/-! the two worlds -/
abbrev vwCl : List vw_C := [(RX1, TX1, 12), (RX2, TX2, 10)]
abbrev q_ty (ci cz : ClassId) : List (ClassId × FieldType) := [(ci, .int), (cz, .boolean)]
abbrev xw (ad : Nat → Nat) (ci cz : ClassId) (nx pv lo le wo di ba : Nat → Int32) (cp tg hi mi go : Int32) : va_W :=
  [(ad 0, .inr (0, [.ref (ad 1), .ref (ad 2), .ref (ad 3), .ref (ad 4), .ref (ad 5), .ref (ad 6), .ref (ad 7), .int cp, .int tg, .int hi, .int mi, .int go])), (ad 1, .inl (ci, 69, .inl nx)), (ad 2, .inl (ci, 69, .inl pv)), (ad 3, .inl (ci, 64, .inl lo)), (ad 4, .inl (ci, 5, .inl le)), (ad 5, .inl (ci, 64, .inl wo)), (ad 6, .inl (cz, 64, .inl di)), (ad 7, .inl (ci, 64, .inl ba))]
abbrev mw (ad : Nat → Nat) (ci cz : ClassId) (li ma wo di ba : Nat → Int32) (cp tg hi mi go : Int32) : va_W :=
  [(ad 0, .inr (1, [.int cp, .ref (ad 1), .ref (ad 2), .ref (ad 3), .ref (ad 4), .ref (ad 5), .int tg, .int hi, .int mi, .int go])), (ad 1, .inl (ci, 320, .inl li)), (ad 2, .inl (ci, 5, .inl ma)), (ad 3, .inl (ci, 64, .inl ba)), (ad 4, .inl (ci, 64, .inl wo)), (ad 5, .inl (cz, 64, .inl di))]
abbrev q_Pre (dC : Nat → ClassId) (dI : Nat → Nat → Nat) (ci cz : ClassId) (sz : Nat) (w : va_W) (U : State) : Prop := U.heap.size = sz ∧ va_P (dC, dI) vwCl w U.heap ∧ va_K (dC, dI) vwCl (q_ty ci cz) U ∧ va_D (fun _ => True) w
abbrev q_Post (dC : Nat → ClassId) (dI : Nat → Nat → Nat) (ci cz : ClassId) (A : Nat → Prop) (w : va_W) (t : State) : Prop := va_P (dC, dI) vwCl w t.heap ∧ va_K (dC, dI) vwCl (q_ty ci cz) t ∧ va_D A w
/-- what the class leaves open: next, prev, listOf, lengths; the reference: lists, many -/
abbrev x_U : Type := (Nat → Int32) × (Nat → Int32) × (Nat → Int32) × (Nat → Int32)
abbrev m_U : Type := (Nat → Int32) × (Nat → Int32)
abbrev xB (dC : Nat → ClassId) (dI : Nat → Nat → Nat) (ci cz : ClassId) (A : Nat → Prop) (ad : Nat → Nat) (wo di ba : Nat → Int32) (cp tg hi mi go : Int32) (u : x_U) (t : State) : Prop := q_Post dC dI ci cz A (xw ad ci cz u.1 u.2.1 u.2.2.1 u.2.2.2 wo di ba cp tg hi mi go) t
abbrev mB (dC : Nat → ClassId) (dI : Nat → Nat → Nat) (ci cz : ClassId) (A : Nat → Prop) (ad : Nat → Nat) (wo di ba : Nat → Int32) (cp tg hi mi go : Int32) (u : m_U) (t : State) : Prop := q_Post dC dI ci cz A (mw ad ci cz u.1 u.2 wo di ba cp tg hi mi go) t
theorem q_blind {dC : Nat → ClassId} {dI : Nat → Nat → Nat} {ci cz : ClassId} {sz : Nat} {w : va_W} {av : List Value} : FrameBlind (va_Pc av (q_Pre dC dI ci cz sz w)) := fun a U g mk q => by
  obtain ⟨q0, q1, qP, qK, qD⟩ := q
  exact ⟨q0, q1, qP, va_K.moved (u := U) (U := U.calling g mk a) (Vm.Alike.refl U.vm) qK, qD⟩
theorem q_ent {dC : Nat → ClassId} {dI : Nat → Nat → Nat} {ci cz : ClassId} {w : va_W} {s U : State} {H : Heap} {A : Nat → Prop} {av : List Value} (hP : va_P (dC, dI) vwCl w H) (hK : va_K (dC, dI) vwCl (q_ty ci cz) s) (hD : va_D A w) (hU : U.heap = H) (hW : s.WarmedH U.vm) : va_Pc av (q_Pre dC dI ci cz H.size w) av.toArray U :=
  ⟨rfl, by rw [hU], by rw [hU]; exact hP, va_K.moved hW.alike hK, hD.weaken (fun _ _ _ _ => trivial)⟩
end
section
/-! PURE: the four lists as a value: L k is list k, its new end first -/
theorem q_len64 : ∀ (n : Nat) (l : List Nat), l.Nodup → (∀ a, a ∈ l → a < n) → l.length ≤ n := by
  intro n
  induction n with
  | zero =>
    intro l _ h
    match l, h with
    | [], _ => exact Nat.le_refl 0
    | a :: l, h => exact absurd (h a List.mem_cons_self) (Nat.not_lt_zero a)
  | succ n ih =>
    intro l hn h
    have h1 := ih (l.erase n) (hn.erase n) (fun a ha => by
      have h2 := (List.Nodup.mem_erase_iff hn).mp ha
      have h3 := h a h2.2
      have h4 := h2.1
      omega)
    have h5 : l.length - 1 ≤ (l.erase n).length := List.le_length_erase
    omega
/-- which list an address is in (0: none) -/
def q_wh (L : Nat → List Nat) (a : Nat) : Nat := if a ∈ L 1 then 1 else if a ∈ L 2 then 2 else if a ∈ L 3 then 3 else if a ∈ L 4 then 4 else 0
def q_rm (L : Nat → List Nat) (a : Nat) : Nat → List Nat := fun k => (L k).erase a
def q_ins (L : Nat → List Nat) (a k : Nat) : Nat → List Nat := fun j => if j = k then a :: L j else L j
def q_mv (L : Nat → List Nat) (a k : Nat) : Nat → List Nat := if k = 0 then q_rm L a else q_ins (q_rm L a) a k
def q_ok (L : Nat → List Nat) : Prop := (∀ k, (L k).Nodup) ∧ (∀ k a, a ∈ L k → a < 64 ∧ 1 ≤ k ∧ k ≤ 4) ∧ (∀ j k a, a ∈ L j → a ∈ L k → j = k)
theorem q_wh_le (L : Nat → List Nat) (a : Nat) : q_wh L a ≤ 4 := by
  unfold q_wh
  by_cases h1 : a ∈ L 1
  · rw [if_pos h1]; decide
  · rw [if_neg h1]
    by_cases h2 : a ∈ L 2
    · rw [if_pos h2]; decide
    · rw [if_neg h2]
      by_cases h3 : a ∈ L 3
      · rw [if_pos h3]; decide
      · rw [if_neg h3]
        by_cases h4 : a ∈ L 4
        · rw [if_pos h4]; decide
        · rw [if_neg h4]; decide
theorem q_wh_of {L : Nat → List Nat} {a k : Nat} (h : q_ok L) (ha : a ∈ L k) : q_wh L a = k := by
  have hk := (h.2.1 k a ha).2
  have h3 : ∀ j, a ∈ L j → j = k := fun j hj => h.2.2 j k a hj ha
  unfold q_wh
  rcases (show k = 1 ∨ k = 2 ∨ k = 3 ∨ k = 4 by omega) with e | e | e | e
  · subst e; rw [if_pos ha]
  · subst e; rw [if_neg (fun q => absurd (h3 1 q) (by decide)), if_pos ha]
  · subst e; rw [if_neg (fun q => absurd (h3 1 q) (by decide)), if_neg (fun q => absurd (h3 2 q) (by decide)), if_pos ha]
  · subst e; rw [if_neg (fun q => absurd (h3 1 q) (by decide)), if_neg (fun q => absurd (h3 2 q) (by decide)), if_neg (fun q => absurd (h3 3 q) (by decide)), if_pos ha]
theorem q_wh_in {L : Nat → List Nat} {a : Nat} (h : q_wh L a ≠ 0) : a ∈ L (q_wh L a) := by
  by_cases h1 : a ∈ L 1
  · have e : q_wh L a = 1 := by unfold q_wh; rw [if_pos h1]
    rw [e]; exact h1
  · by_cases h2 : a ∈ L 2
    · have e : q_wh L a = 2 := by unfold q_wh; rw [if_neg h1, if_pos h2]
      rw [e]; exact h2
    · by_cases h3 : a ∈ L 3
      · have e : q_wh L a = 3 := by unfold q_wh; rw [if_neg h1, if_neg h2, if_pos h3]
        rw [e]; exact h3
      · by_cases h4 : a ∈ L 4
        · have e : q_wh L a = 4 := by unfold q_wh; rw [if_neg h1, if_neg h2, if_neg h3, if_pos h4]
          rw [e]; exact h4
        · exact absurd (by unfold q_wh; rw [if_neg h1, if_neg h2, if_neg h3, if_neg h4]) h
theorem q_wh_no {L : Nat → List Nat} {a : Nat} (h : q_ok L) (h0 : q_wh L a = 0) (k : Nat) : a ∉ L k := fun ha => by
  have h1 := q_wh_of h ha
  have h2 := (h.2.1 k a ha).2
  omega
theorem q_wh_0 {L : Nat → List Nat} {a : Nat} (h : ∀ k, a ∉ L k) : q_wh L a = 0 := by
  unfold q_wh
  rw [if_neg (h 1), if_neg (h 2), if_neg (h 3), if_neg (h 4)]
theorem q_wh_is {L : Nat → List Nat} {a k : Nat} (h : q_wh L a = k) (hk : k ≠ 0) : a ∈ L k := by
  have h1 := q_wh_in (L := L) (a := a) (by omega)
  rw [h] at h1
  exact h1
theorem q_ok_rm {L : Nat → List Nat} {a : Nat} (h : q_ok L) : q_ok (q_rm L a) :=
  ⟨fun k => (h.1 k).erase a, fun k b hb => h.2.1 k b (List.mem_of_mem_erase hb), fun j k b hj hk => h.2.2 j k b (List.mem_of_mem_erase hj) (List.mem_of_mem_erase hk)⟩
theorem q_rm_no {L : Nat → List Nat} {a : Nat} (h : q_ok L) (k : Nat) : a ∉ q_rm L a k := (h.1 k).not_mem_erase
theorem q_rm_wh {L : Nat → List Nat} {a : Nat} (h : q_ok L) : q_wh (q_rm L a) a = 0 := q_wh_0 (q_rm_no h)
theorem q_rm_same {L : Nat → List Nat} {a : Nat} (h : q_ok L) (h0 : q_wh L a = 0) : q_rm L a = L := by
  funext k
  exact List.erase_of_not_mem (q_wh_no h h0 k)
theorem q_ok_ins {L : Nat → List Nat} {a k : Nat} (h : q_ok L) (ha : a < 64) (h0 : ∀ j, a ∉ L j) (hk : 1 ≤ k) (hk4 : k ≤ 4) : q_ok (q_ins L a k) := by
  have hm : ∀ j b, b ∈ q_ins L a k j → (b = a ∧ j = k) ∨ (b ≠ a ∧ b ∈ L j) := by
    intro j b hb
    unfold q_ins at hb
    by_cases hj : j = k
    · rw [if_pos hj] at hb
      rcases List.mem_cons.mp hb with e | e
      · exact Or.inl ⟨e, hj⟩
      · exact Or.inr ⟨fun q => h0 j (by rw [← q]; exact e), e⟩
    · rw [if_neg hj] at hb
      exact Or.inr ⟨fun q => h0 j (by rw [← q]; exact hb), hb⟩
  refine ⟨fun j => ?_, fun j b hb => ?_, fun i j b hi hj => ?_⟩
  · unfold q_ins
    by_cases hj : j = k
    · rw [if_pos hj]
      exact List.nodup_cons.mpr ⟨h0 j, h.1 j⟩
    · rw [if_neg hj]
      exact h.1 j
  · rcases hm j b hb with ⟨e1, e2⟩ | ⟨-, e2⟩
    · rw [e1, e2]; exact ⟨ha, hk, hk4⟩
    · exact h.2.1 j b e2
  · rcases hm i b hi with ⟨e1, e2⟩ | ⟨e1, e2⟩
    · rcases hm j b hj with ⟨f1, f2⟩ | ⟨f1, f2⟩
      · rw [e2, f2]
      · exact absurd e1 f1
    · rcases hm j b hj with ⟨f1, f2⟩ | ⟨f1, f2⟩
      · exact absurd f1 e1
      · exact h.2.2 i j b e2 f2
theorem q_ok_mv {L : Nat → List Nat} {a k : Nat} (h : q_ok L) (ha : a < 64) (hk4 : k ≤ 4) : q_ok (q_mv L a k) := by
  unfold q_mv
  by_cases h0 : k = 0
  · rw [if_pos h0]; exact q_ok_rm h
  · rw [if_neg h0]; exact q_ok_ins (q_ok_rm h) ha (q_rm_no h) (by omega) hk4
theorem q_wh_rm {L : Nat → List Nat} {a b : Nat} (h : q_ok L) : q_wh (q_rm L a) b = if b = a then 0 else q_wh L b := by
  by_cases hb : b = a
  · rw [if_pos hb, hb]; exact q_rm_wh h
  · rw [if_neg hb]
    by_cases h0 : q_wh L b = 0
    · rw [h0]
      exact q_wh_0 (fun k hk => q_wh_no h h0 k (List.mem_of_mem_erase hk))
    · exact q_wh_of (q_ok_rm h) ((List.mem_erase_of_ne hb).mpr (q_wh_in h0))
theorem q_wh_ins {L : Nat → List Nat} {a b k : Nat} (h : q_ok L) (ha : a < 64) (h0 : ∀ j, a ∉ L j) (hk : 1 ≤ k) (hk4 : k ≤ 4) : q_wh (q_ins L a k) b = if b = a then k else q_wh L b := by
  have hok := q_ok_ins h ha h0 hk hk4
  by_cases hb : b = a
  · rw [if_pos hb, hb]
    refine q_wh_of hok ?_
    unfold q_ins
    rw [if_pos rfl]; exact List.mem_cons_self
  · rw [if_neg hb]
    by_cases hz : q_wh L b = 0
    · rw [hz]
      refine q_wh_0 (fun j hj => ?_)
      unfold q_ins at hj
      by_cases hjk : j = k
      · rw [if_pos hjk] at hj
        rcases List.mem_cons.mp hj with e | e
        · exact hb e
        · exact q_wh_no h hz j e
      · rw [if_neg hjk] at hj
        exact q_wh_no h hz j hj
    · refine q_wh_of hok ?_
      have h1 := q_wh_in hz
      unfold q_ins
      by_cases hjk : q_wh L b = k
      · rw [if_pos hjk]; exact List.mem_cons_of_mem _ h1
      · rw [if_neg hjk]; exact h1
theorem q_wh_mv {L : Nat → List Nat} {a b k : Nat} (h : q_ok L) (ha : a < 64) (hk4 : k ≤ 4) : q_wh (q_mv L a k) b = if b = a then k else q_wh L b := by
  unfold q_mv
  by_cases h0 : k = 0
  · rw [if_pos h0, h0]; exact q_wh_rm h
  · rw [if_neg h0, q_wh_ins (q_ok_rm h) ha (q_rm_no h) (by omega) hk4, q_wh_rm h]
    by_cases hb : b = a
    · rw [if_pos hb, if_pos hb]
    · rw [if_neg hb, if_neg hb, if_neg hb]
theorem q_len_rm {L : Nat → List Nat} {o j : Nat} (h : q_ok L) (ho : o ∈ L j) (i : Nat) : (q_rm L o i).length = if i = j then (L i).length - 1 else (L i).length := by
  unfold q_rm
  by_cases hi : i = j
  · rw [if_pos hi]; subst hi
    exact List.length_erase_of_mem ho
  · rw [if_neg hi, List.erase_of_not_mem (fun q => hi (h.2.2 i j o q ho))]
theorem q_len_ins {L : Nat → List Nat} {a k : Nat} (i : Nat) : (q_ins L a k i).length = if i = k then (L i).length + 1 else (L i).length := by
  unfold q_ins
  by_cases hi : i = k
  · rw [if_pos hi, if_pos hi]; rfl
  · rw [if_neg hi, if_neg hi]
/-- the last of x :: l -/
def q_last : Nat → List Nat → Nat
  | x, [] => x
  | _, a :: l => q_last a l
theorem q_last_or : ∀ (l : List Nat) (x : Nat), q_last x l = x ∨ q_last x l ∈ l
  | [], _ => Or.inl rfl
  | a :: l, x => by
    right
    rcases q_last_or l a with e | e
    · show q_last a l ∈ a :: l
      rw [e]; exact List.mem_cons_self
    · exact List.mem_cons_of_mem _ e
theorem q_last_in {l : List Nat} (x : Nat) (h : l ≠ []) : q_last x l ∈ l := by
  cases l with
  | nil => exact absurd rfl h
  | cons a l =>
    show q_last a l ∈ a :: l
    rcases q_last_or l a with e | e
    · rw [e]; exact List.mem_cons_self
    · exact List.mem_cons_of_mem _ e
theorem q_last_eq {l : List Nat} (x y : Nat) (h : l ≠ []) : q_last x l = q_last y l := by
  cases l with
  | nil => exact absurd rfl h
  | cons a l => rfl
theorem q_last_get : ∀ (l : List Nat) (x : Nat), l ≠ [] → l[l.length - 1]? = some (q_last x l)
  | [], _, h => absurd rfl h
  | [a], _, _ => rfl
  | a :: b :: l, x, _ => by
    have h := q_last_get (b :: l) a (by simp)
    exact h
/-! the ring through its head -/
def q_seg (nx pv : Nat → Int32) : Nat → List Nat → Nat → Prop
  | x, [], y => nx x = nI y ∧ pv y = nI x
  | x, a :: l, y => nx x = nI a ∧ pv a = nI x ∧ q_seg nx pv a l y
theorem q_seg_first {nx pv : Nat → Int32} {x y : Nat} {l : List Nat} (h : q_seg nx pv x l y) : nx x = nI (l.headD y) := by
  cases l with
  | nil => exact h.1
  | cons a l => exact h.1
theorem q_seg_last {nx pv : Nat → Int32} {y : Nat} : ∀ (l : List Nat) (x : Nat), q_seg nx pv x l y → pv y = nI (q_last x l)
  | [], _, h => h.2
  | a :: l, _, h => q_seg_last l a h.2.2
theorem q_seg_app {nx pv : Nat → Int32} {a y : Nat} {l2 : List Nat} : ∀ (l1 : List Nat) (x : Nat), q_seg nx pv x (l1 ++ a :: l2) y ↔ q_seg nx pv x l1 a ∧ q_seg nx pv a l2 y
  | [], x => by
    show (nx x = nI a ∧ pv a = nI x ∧ q_seg nx pv a l2 y) ↔ ((nx x = nI a ∧ pv a = nI x) ∧ q_seg nx pv a l2 y)
    exact and_assoc.symm
  | b :: l1, x => by
    show (nx x = nI b ∧ pv b = nI x ∧ q_seg nx pv b (l1 ++ a :: l2) y) ↔ ((nx x = nI b ∧ pv b = nI x ∧ q_seg nx pv b l1 a) ∧ q_seg nx pv a l2 y)
    rw [q_seg_app l1 b]
    constructor
    · intro h; exact ⟨⟨h.1, h.2.1, h.2.2.1⟩, h.2.2.2⟩
    · intro h; exact ⟨h.1.1, h.1.2.1, h.1.2.2, h.2⟩
theorem q_seg_congr {nx pv nx' pv' : Nat → Int32} {y : Nat} : ∀ (l : List Nat) (x : Nat), (∀ b, b = x ∨ b ∈ l → nx' b = nx b) → (∀ b, b = y ∨ b ∈ l → pv' b = pv b) → q_seg nx pv x l y → q_seg nx' pv' x l y
  | [], x, h1, h2, h => ⟨(h1 x (Or.inl rfl)).trans h.1, (h2 y (Or.inl rfl)).trans h.2⟩
  | a :: l, x, h1, h2, h => ⟨(h1 x (Or.inl rfl)).trans h.1, (h2 a (Or.inr List.mem_cons_self)).trans h.2.1, q_seg_congr l a (fun b hb => h1 b (Or.inr (List.mem_cons.mpr hb))) (fun b hb => h2 b (hb.imp id (List.mem_cons_of_mem _))) h.2.2⟩
theorem q_headD {l : List Nat} (y : Nat) : l.headD y = y ∨ l.headD y ∈ l := by
  cases l with
  | nil => exact Or.inl rfl
  | cons a l => exact Or.inr List.mem_cons_self
theorem q_seg_cut {nx pv : Nat → Int32} {a y : Nat} {l2 : List Nat} : ∀ (l1 : List Nat) (x : Nat), q_seg nx pv x l1 a → q_seg nx pv a l2 y → (l1 ++ a :: l2).Nodup → x ∉ l1 ++ a :: l2 → y ∉ l1 ++ a :: l2 →
    q_seg (upd nx (q_last x l1) (nI (l2.headD y))) (upd pv (l2.headD y) (nI (q_last x l1))) x (l1 ++ l2) y
  | [], x, _, h2, hn, hx, hy => by
    cases l2 with
    | nil => exact ⟨pk_us, pk_us⟩
    | cons b l2 =>
      refine ⟨pk_us, pk_us, q_seg_congr l2 b (fun z hz => pk_un (fun e => ?_)) (fun z hz => pk_un (fun e => ?_)) h2.2.2⟩
      · refine hx ?_
        have e2 : z = x := e
        rw [← e2]
        exact List.mem_cons_of_mem _ (List.mem_cons.mpr hz)
      · have e2 : z = b := e
        have hn2 : (b :: l2).Nodup := (List.nodup_cons.mp hn).2
        rcases hz with hz | hz
        · refine hy ?_
          rw [← hz, e2]
          exact List.mem_cons_of_mem _ List.mem_cons_self
        · exact (List.nodup_cons.mp hn2).1 (by rw [← e2]; exact hz)
  | b :: l1, x, h1, h2, hn, hx, hy => by
    have hn' : b ∉ l1 ++ a :: l2 ∧ (l1 ++ a :: l2).Nodup := List.nodup_cons.mp hn
    have hx' : x ≠ b ∧ x ∉ l1 ++ a :: l2 := ⟨fun e => hx (by rw [e]; exact List.mem_cons_self), fun e => hx (List.mem_cons_of_mem _ e)⟩
    have hy' : y ≠ b ∧ y ∉ l1 ++ a :: l2 := ⟨fun e => hy (by rw [e]; exact List.mem_cons_self), fun e => hy (List.mem_cons_of_mem _ e)⟩
    refine ⟨?_, ?_, ?_⟩
    · show upd nx (q_last b l1) _ x = nI b
      rw [pk_un (fun e => ?_)]
      · exact h1.1
      · rcases q_last_or l1 b with q | q
        · exact hx'.1 (e.trans q)
        · exact hx'.2 (List.mem_append_left _ (by rw [e]; exact q))
    · show upd pv (l2.headD y) _ b = nI x
      rw [pk_un (fun e => ?_)]
      · exact h1.2.1
      · rcases q_headD (l := l2) y with q | q
        · exact hy'.1 (q.symm.trans e.symm)
        · exact hn'.1 (List.mem_append_right _ (List.mem_cons_of_mem _ (by rw [e]; exact q)))
    · exact q_seg_cut l1 b h1.2.2 h2 hn'.2 hn'.1 hy'.2
theorem q_seg_ins {nx pv : Nat → Int32} {a x y : Nat} {l : List Nat} (h : q_seg nx pv x l y) (hax : a ≠ x) (hay : a ≠ y) (hal : a ∉ l) (hx : x ∉ l) (hy : y ∉ l) (hn : l.Nodup) :
    q_seg (upd (upd nx a (nI (l.headD y))) x (nI a)) (upd (upd pv a (nI x)) (l.headD y) (nI a)) x (a :: l) y := by
  refine ⟨pk_us, ?_, ?_⟩
  · rw [pk_un (fun e => ?_), pk_us]
    rcases q_headD (l := l) y with q | q
    · exact hay (e.trans q)
    · exact hal (by rw [e]; exact q)
  · cases l with
    | nil =>
      refine ⟨?_, pk_us⟩
      rw [pk_un hax, pk_us]; rfl
    | cons b l =>
      refine ⟨?_, pk_us, q_seg_congr l b (fun z hz => ?_) (fun z hz => ?_) h.2.2⟩
      · rw [pk_un hax, pk_us]; rfl
      · have hz2 : z ∈ b :: l := List.mem_cons.mpr hz
        rw [pk_un (fun e => hx (by rw [← e]; exact hz2)), pk_un (fun e => hal (by rw [← e]; exact hz2))]
      · have hb := List.nodup_cons.mp hn
        show upd (upd pv a (nI x)) b (nI a) z = pv z
        rcases hz with hz | hz
        · rw [pk_un (fun e => hy (by rw [← hz, e]; exact List.mem_cons_self)), pk_un (fun e => hay (e.symm.trans hz))]
        · rw [pk_un (fun e => hb.1 (by rw [← e]; exact hz)), pk_un (fun e => hal (by rw [← e]; exact List.mem_cons_of_mem _ hz))]
/-! the class's own picture -/
def x_rep (L : Nat → List Nat) (nx pv lo le : Nat → Int32) : Prop := (∀ a, a < 64 → lo a = nI (q_wh L a)) ∧ (∀ k, 1 ≤ k → k ≤ 4 → le k = nI (L k).length) ∧ ∀ k, 1 ≤ k → k ≤ 4 → q_seg nx pv (64 + k) (L k) (64 + k)
theorem q_nd {L : Nat → List Nat} {j k b d : Nat} (h : q_ok L) (hjk : j ≠ k) (h1 : b = 64 + j ∨ b ∈ L j) (h2 : d = 64 + k ∨ d ∈ L k) : b ≠ d := by
  intro e
  subst e
  rcases h1 with h1 | h1
  · rcases h2 with h2 | h2
    · omega
    · have h3 := (h.2.1 k b h2).1
      omega
  · rcases h2 with h2 | h2
    · have h3 := (h.2.1 j b h1).1
      omega
    · exact hjk (h.2.2 j k b h1 h2)
theorem q_node {L : Nat → List Nat} {k b : Nat} (h : q_ok L) (hk : k ≤ 4) (h1 : b = 64 + k ∨ b ∈ L k) : b < 69 := by
  rcases h1 with h1 | h1
  · omega
  · have h3 := (h.2.1 k b h1).1
    omega
theorem x_unl {L : Nat → List Nat} {nx pv lo le : Nat → Int32} {a : Nat} (h : q_ok L) (hR : x_rep L nx pv lo le) (ha : a < 64) (hk : q_wh L a ≠ 0) : ∃ p s n : Nat, p < 69 ∧ s < 69 ∧ n < 64 ∧ a ≠ p ∧ pv a = nI p ∧ nx a = nI s ∧ le (q_wh L a) = nI (n + 1) ∧ x_rep (q_rm L a) (upd nx p (nI s)) (upd pv s (nI p)) (upd lo a (nI 0)) (upd le (q_wh L a) (nI n)) := by
  have hin := q_wh_in hk
  have hk4 := q_wh_le L a
  generalize hkk : q_wh L a = k at hin hk4 hk ⊢
  obtain ⟨l1, l2, e⟩ := List.append_of_mem hin
  have hk1 : 1 ≤ k := by omega
  have hseg := hR.2.2 k hk1 hk4
  rw [e] at hseg
  obtain ⟨s1, s2⟩ := (q_seg_app l1 (64 + k)).mp hseg
  have hnd : (l1 ++ a :: l2).Nodup := by rw [← e]; exact h.1 k
  have hnd2 := List.nodup_append.mp hnd
  have hal1 : a ∉ l1 := fun q => hnd2.2.2 a q a List.mem_cons_self rfl
  have hal2 : a ∉ l2 := (List.nodup_cons.mp hnd2.2.1).1
  have hp : q_last (64 + k) l1 = 64 + k ∨ q_last (64 + k) l1 ∈ l1 := q_last_or l1 (64 + k)
  have hs : l2.headD (64 + k) = 64 + k ∨ l2.headD (64 + k) ∈ l2 := q_headD (64 + k)
  have hp2 : q_last (64 + k) l1 = 64 + k ∨ q_last (64 + k) l1 ∈ L k := hp.imp id (fun q => by rw [e]; exact List.mem_append_left _ q)
  have hs2 : l2.headD (64 + k) = 64 + k ∨ l2.headD (64 + k) ∈ L k := hs.imp id (fun q => by rw [e]; exact List.mem_append_right _ (List.mem_cons_of_mem _ q))
  have hlen : (L k).length = l1.length + l2.length + 1 := by rw [e, List.length_append, List.length_cons]; omega
  have h64 : (L k).length ≤ 64 := q_len64 64 (L k) (h.1 k) (fun b hb => (h.2.1 k b hb).1)
  have hhead : ∀ b, b ∈ L k → b ≠ 64 + k := fun b hb q => by have := (h.2.1 k b hb).1; omega
  have her : q_rm L a k = l1 ++ l2 := by
    show (L k).erase a = l1 ++ l2
    rw [e, List.erase_append_right _ hal1, List.erase_cons_head]
  refine ⟨q_last (64 + k) l1, l2.headD (64 + k), l1.length + l2.length, q_node h hk4 hp2, q_node h hk4 hs2, by omega, ?_, q_seg_last l1 _ s1, q_seg_first s2, ?_, ?_, ?_, ?_⟩
  · intro q
    rcases hp with hp | hp
    · omega
    · exact hal1 (by rw [q]; exact hp)
  · rw [hR.2.1 k hk1 hk4, hlen]
  · intro b hb
    rw [q_wh_rm h]
    by_cases hba : b = a
    · rw [if_pos hba, hba, pk_us]
    · rw [if_neg hba, pk_un hba]; exact hR.1 b hb
  · intro j hj1 hj4
    by_cases hjk : j = k
    · rw [hjk, pk_us, her, List.length_append]
    · rw [pk_un hjk, hR.2.1 j hj1 hj4, q_len_rm h hin, if_neg hjk]
  · intro j hj1 hj4
    by_cases hjk : j = k
    · rw [hjk, her]
      refine q_seg_cut l1 (64 + k) s1 s2 hnd ?_ ?_
      · rw [← e]; exact fun q => hhead _ q rfl
      · rw [← e]; exact fun q => hhead _ q rfl
    · have hj2 : q_rm L a j = L j := List.erase_of_not_mem (fun q => hjk (h.2.2 j k a q hin))
      rw [hj2]
      exact q_seg_congr (L j) (64 + j) (fun b hb => pk_un (q_nd h hjk hb hp2)) (fun b hb => pk_un (q_nd h hjk hb hs2)) (hR.2.2 j hj1 hj4)
theorem x_insert {L : Nat → List Nat} {nx pv lo le : Nat → Int32} {a k : Nat} (h : q_ok L) (hR : x_rep L nx pv lo le) (ha : a < 64) (h0 : ∀ j, a ∉ L j) (hk1 : 1 ≤ k) (hk4 : k ≤ 4) : ∃ f n : Nat, f < 69 ∧ n < 64 ∧ nx (64 + k) = nI f ∧ le k = nI n ∧ x_rep (q_ins L a k) (upd (upd nx a (nI f)) (64 + k) (nI a)) (upd (upd pv a (nI (64 + k))) f (nI a)) (upd lo a (nI k)) (upd le k (nI (n + 1))) := by
  have hseg := hR.2.2 k hk1 hk4
  have hf : (L k).headD (64 + k) = 64 + k ∨ (L k).headD (64 + k) ∈ L k := q_headD (64 + k)
  have hlen : (a :: L k).length ≤ 64 := q_len64 64 (a :: L k) (List.nodup_cons.mpr ⟨h0 k, h.1 k⟩) (fun b hb => by
    rcases List.mem_cons.mp hb with q | q
    · rw [q]; exact ha
    · exact (h.2.1 k b q).1)
  rw [List.length_cons] at hlen
  have hhead : ∀ b, b ∈ L k → b ≠ 64 + k := fun b hb q => by have := (h.2.1 k b hb).1; omega
  refine ⟨(L k).headD (64 + k), (L k).length, q_node h hk4 hf, by omega, q_seg_first hseg, hR.2.1 k hk1 hk4, ?_, ?_, ?_⟩
  · intro b hb
    rw [q_wh_ins h ha h0 hk1 hk4]
    by_cases hba : b = a
    · rw [if_pos hba, hba, pk_us]
    · rw [if_neg hba, pk_un hba]; exact hR.1 b hb
  · intro j hj1 hj4
    rw [q_len_ins]
    by_cases hjk : j = k
    · rw [if_pos hjk, hjk, pk_us]
    · rw [if_neg hjk, pk_un hjk]; exact hR.2.1 j hj1 hj4
  · intro j hj1 hj4
    by_cases hjk : j = k
    · have e : q_ins L a k j = a :: L k := by unfold q_ins; rw [if_pos hjk, hjk]
      rw [e, hjk]
      exact q_seg_ins hseg (by omega) (by omega) (h0 k) (fun q => hhead _ q rfl) (fun q => hhead _ q rfl) (h.1 k)
    · have e : q_ins L a k j = L j := by unfold q_ins; rw [if_neg hjk]
      rw [e]
      have hna : ∀ b, b = 64 + j ∨ b ∈ L j → b ≠ a := fun b hb q => by
        rcases hb with hb | hb
        · omega
        · exact h0 j (by rw [← q]; exact hb)
      refine q_seg_congr (L j) (64 + j) (fun b hb => ?_) (fun b hb => ?_) (hR.2.2 j hj1 hj4)
      · rw [pk_un (q_nd h hjk hb (Or.inl rfl)), pk_un (hna b hb)]
      · rw [pk_un (q_nd h hjk hb hf), pk_un (hna b hb)]
theorem x_old {L : Nat → List Nat} {nx pv lo le : Nat → Int32} {k : Nat} (hR : x_rep L nx pv lo le) (hk1 : 1 ≤ k) (hk4 : k ≤ 4) (hne : L k ≠ []) : pv (64 + k) = nI (q_last 0 (L k)) := by
  rw [q_seg_last (L k) (64 + k) (hR.2.2 k hk1 hk4), q_last_eq (64 + k) 0 hne]
end
section
/-! PURE: the reference's picture: list k in a row from 64 k on -/
def m_rep (L : Nat → List Nat) (li ma : Nat → Int32) : Prop := (∀ k, 1 ≤ k → k ≤ 4 → ma k = nI (L k).length) ∧ ∀ k i b, 1 ≤ k → k ≤ 4 → (L k)[i]? = some b → li (64 * k + i) = nI b
def q_shl (li : Nat → Int32) (p e : Nat) : Nat → Int32 := fun j => if p ≤ j ∧ j < e then li (j + 1) else li j
def q_shr (li : Nat → Int32) (i e : Nat) : Nat → Int32 := fun j => if i < j ∧ j ≤ e then li (j - 1) else li j
theorem q_shl_0 (li : Nat → Int32) (p : Nat) : q_shl li p p = li := by
  funext j
  unfold q_shl
  rw [if_neg (by omega)]
theorem q_shl_at (li : Nat → Int32) {p i : Nat} : q_shl li p i (i + 1) = li (i + 1) := by
  unfold q_shl
  rw [if_neg (by omega)]
theorem q_shl_s (li : Nat → Int32) {p i : Nat} (h : p ≤ i) : upd (q_shl li p i) i (li (i + 1)) = q_shl li p (i + 1) := by
  funext j
  by_cases hj : j = i
  · rw [hj, pk_us]
    unfold q_shl
    rw [if_pos (by omega)]
  · rw [pk_un hj]
    unfold q_shl
    by_cases hc : p ≤ j ∧ j < i
    · rw [if_pos hc, if_pos (by omega)]
    · rw [if_neg hc, if_neg (by omega)]
theorem q_shr_0 (li : Nat → Int32) (e : Nat) : q_shr li e e = li := by
  funext j
  unfold q_shr
  rw [if_neg (by omega)]
theorem q_shr_at (li : Nat → Int32) {i e : Nat} : q_shr li (i + 1) e i = li i := by
  unfold q_shr
  rw [if_neg (by omega)]
theorem q_shr_s (li : Nat → Int32) {i e : Nat} (h : i + 1 ≤ e) : upd (q_shr li (i + 1) e) (i + 1) (li i) = q_shr li i e := by
  funext j
  by_cases hj : j = i + 1
  · rw [hj, pk_us]
    unfold q_shr
    rw [if_pos (by omega)]
    rfl
  · rw [pk_un hj]
    unfold q_shr
    by_cases hc : i + 1 < j ∧ j ≤ e
    · rw [if_pos hc, if_pos (by omega)]
    · rw [if_neg hc, if_neg (by omega)]
theorem q_L64 {L : Nat → List Nat} (h : q_ok L) (k : Nat) : (L k).length ≤ 64 := q_len64 64 (L k) (h.1 k) (fun b hb => (h.2.1 k b hb).1)
theorem q_i64 {L : Nat → List Nat} (h : q_ok L) {k i b : Nat} (hi : (L k)[i]? = some b) : i < (L k).length ∧ i < 64 := by
  have h1 : i < (L k).length := (List.getElem?_eq_some_iff.mp hi).1
  have h2 := q_L64 h k
  exact ⟨h1, by omega⟩
theorem m_lv {L : Nat → List Nat} {li ma : Nat → Int32} {a : Nat} (h : q_ok L) (hR : m_rep L li ma) (hk : q_wh L a ≠ 0) : ∃ p n : Nat, p ≤ n ∧ n < 64 ∧ ma (q_wh L a) = nI (n + 1) ∧ (∀ i, i < p → ∃ b, b < 64 ∧ b ≠ a ∧ li (64 * q_wh L a + i) = nI b) ∧ li (64 * q_wh L a + p) = nI a ∧ m_rep (q_rm L a) (q_shl li (64 * q_wh L a + p) (64 * q_wh L a + n)) (upd ma (q_wh L a) (nI n)) := by
  have hin := q_wh_in hk
  have hk4 := q_wh_le L a
  generalize hkk : q_wh L a = k at hin hk4 hk ⊢
  obtain ⟨l1, l2, e⟩ := List.append_of_mem hin
  have hk1 : 1 ≤ k := by omega
  have hnd : (l1 ++ a :: l2).Nodup := by rw [← e]; exact h.1 k
  have hnd2 := List.nodup_append.mp hnd
  have hal1 : a ∉ l1 := fun q => hnd2.2.2 a q a List.mem_cons_self rfl
  have hlen : (L k).length = l1.length + l2.length + 1 := by rw [e, List.length_append, List.length_cons]; omega
  have h64 := q_L64 h k
  have her : q_rm L a k = l1 ++ l2 := by
    show (L k).erase a = l1 ++ l2
    rw [e, List.erase_append_right _ hal1, List.erase_cons_head]
  refine ⟨l1.length, l1.length + l2.length, by omega, by omega, by rw [hR.1 k hk1 hk4, hlen], ?_, ?_, ?_, ?_⟩
  · intro i hi
    have h1 : (L k)[i]? = some l1[i] := by rw [e, List.getElem?_append_left hi, List.getElem?_eq_getElem hi]
    refine ⟨l1[i], (h.2.1 k _ (List.mem_of_getElem? h1)).1, fun q => hal1 (by rw [← q]; exact List.getElem_mem hi), hR.2 k i _ hk1 hk4 h1⟩
  · refine hR.2 k l1.length a hk1 hk4 ?_
    rw [e, List.getElem?_append_right (Nat.le_refl _), Nat.sub_self]
    rfl
  · intro j hj1 hj4
    by_cases hjk : j = k
    · rw [hjk, pk_us, her, List.length_append]
    · rw [pk_un hjk, hR.1 j hj1 hj4, q_len_rm h hin, if_neg hjk]
  · intro j i b hj1 hj4 hb
    have hi := (q_i64 (q_ok_rm h) hb)
    by_cases hjk : j = k
    · subst hjk
      rw [her] at hb hi
      rw [List.length_append] at hi
      unfold q_shl
      by_cases hip : i < l1.length
      · rw [if_neg (by omega)]
        refine hR.2 j i b hj1 hj4 ?_
        rw [List.getElem?_append_left hip] at hb
        rw [e, List.getElem?_append_left hip]
        exact hb
      · rw [if_pos (by omega)]
        rw [List.getElem?_append_right (by omega)] at hb
        refine hR.2 j (i + 1) b hj1 hj4 ?_
        rw [e, List.getElem?_append_right (by omega), show i + 1 - l1.length = (i - l1.length) + 1 by omega, List.getElem?_cons_succ]
        exact hb
    · have hj2 : q_rm L a j = L j := List.erase_of_not_mem (fun q => hjk (h.2.2 j k a q hin))
      rw [hj2] at hb
      unfold q_shl
      rw [if_neg (by omega)]
      exact hR.2 j i b hj1 hj4 hb
theorem m_cm {L : Nat → List Nat} {li ma : Nat → Int32} {a k : Nat} (h : q_ok L) (hR : m_rep L li ma) (ha : a < 64) (h0 : ∀ j, a ∉ L j) (hk1 : 1 ≤ k) (hk4 : k ≤ 4) : ∃ n : Nat, n < 64 ∧ ma k = nI n ∧ m_rep (q_ins L a k) (upd (q_shr li (64 * k) (64 * k + n)) (64 * k) (nI a)) (upd ma k (nI (n + 1))) := by
  have hlen : (a :: L k).length ≤ 64 := q_len64 64 (a :: L k) (List.nodup_cons.mpr ⟨h0 k, h.1 k⟩) (fun b hb => by
    rcases List.mem_cons.mp hb with q | q
    · rw [q]; exact ha
    · exact (h.2.1 k b q).1)
  rw [List.length_cons] at hlen
  refine ⟨(L k).length, by omega, hR.1 k hk1 hk4, ?_, ?_⟩
  · intro j hj1 hj4
    rw [q_len_ins]
    by_cases hjk : j = k
    · rw [if_pos hjk, hjk, pk_us]
    · rw [if_neg hjk, pk_un hjk]; exact hR.1 j hj1 hj4
  · intro j i b hj1 hj4 hb
    have hi := q_i64 (q_ok_ins h ha h0 hk1 hk4) hb
    by_cases hjk : j = k
    · have e : q_ins L a k j = a :: L k := by unfold q_ins; rw [if_pos hjk, hjk]
      rw [e] at hb hi
      rw [List.length_cons] at hi
      subst hjk
      match i, hb with
      | 0, hb =>
        have hb2 : some a = some b := hb
        rw [Nat.add_zero, pk_us, Option.some.inj hb2]
      | i + 1, hb =>
        rw [List.getElem?_cons_succ] at hb
        rw [pk_un (by omega)]
        unfold q_shr
        rw [if_pos (by omega), show 64 * j + (i + 1) - 1 = 64 * j + i by omega]
        exact hR.2 j i b hj1 hj4 hb
    · have e : q_ins L a k j = L j := by unfold q_ins; rw [if_neg hjk]
      rw [e] at hb
      rw [pk_un (by omega)]
      unfold q_shr
      rw [if_neg (by omega)]
      exact hR.2 j i b hj1 hj4 hb
theorem m_old {L : Nat → List Nat} {li ma : Nat → Int32} {k : Nat} (h : q_ok L) (hR : m_rep L li ma) (hk1 : 1 ≤ k) (hk4 : k ≤ 4) (hne : L k ≠ []) : 0 < (L k).length ∧ (L k).length ≤ 64 ∧ li (64 * k + (L k).length - 1) = nI (q_last 0 (L k)) := by
  have h1 : 0 < (L k).length := List.length_pos_iff.mpr hne
  refine ⟨h1, q_L64 h k, ?_⟩
  rw [show 64 * k + (L k).length - 1 = 64 * k + ((L k).length - 1) by omega]
  exact hR.2 k _ _ hk1 hk4 (q_last_get (L k) 0 hne)
/-- what the reference's search finds, list by list -/
def q_fd (L : Nat → List Nat) (x : Int32) : Nat → Int32
  | 0 => nI 0
  | k + 1 => if x ∈ (L (k + 1)).map nI then nI (k + 1) else q_fd L x k
/-- inside list k, behind i of its addresses -/
def q_fi (l : List Nat) (x f0 k : Int32) (i : Nat) : Int32 := if x ∈ (l.take i).map nI then k else f0
theorem q_fi_0 (l : List Nat) (x f0 k : Int32) : q_fi l x f0 k 0 = f0 := by
  unfold q_fi
  rw [if_neg (by simp)]
theorem q_fi_s {l : List Nat} {x f0 k : Int32} {i b : Nat} (h : l[i]? = some b) : (if nI b = x then k else q_fi l x f0 k i) = q_fi l x f0 k (i + 1) := by
  have e : (l.take (i + 1)).map nI = (l.take i).map nI ++ [nI b] := by
    rw [List.take_add_one, h, List.map_append]; rfl
  by_cases hb : nI b = x
  · rw [if_pos hb]
    unfold q_fi
    rw [e, if_pos (List.mem_append_right _ (by rw [hb]; exact List.mem_singleton.mpr rfl))]
  · rw [if_neg hb]
    unfold q_fi
    by_cases hc : x ∈ (l.take i).map nI
    · rw [if_pos hc, e, if_pos (List.mem_append_left _ hc)]
    · rw [if_neg hc, e, if_neg (fun q => ?_)]
      rcases List.mem_append.mp q with q | q
      · exact hc q
      · exact hb (List.mem_singleton.mp q).symm
theorem q_fi_e {L : Nat → List Nat} {x : Int32} {k : Nat} : q_fi (L (k + 1)) x (q_fd L x k) (nI (k + 1)) (L (k + 1)).length = q_fd L x (k + 1) := by
  unfold q_fi
  rw [List.take_length]
  rfl
theorem q_map_in {l : List Nat} {a : Nat} (h : ∀ b, b ∈ l → b < 64) (ha : a < 64) : nI a ∈ l.map nI ↔ a ∈ l := by
  constructor
  · intro q
    obtain ⟨b, hb, e⟩ := List.mem_map.mp q
    have h1 := h b hb
    have e2 := (nI_eq (by omega) (by omega)).mp e
    rw [← e2]; exact hb
  · intro q
    exact List.mem_map.mpr ⟨a, q, rfl⟩
theorem q_fd_wh {L : Nat → List Nat} {a : Nat} (h : q_ok L) (ha : a < 64) : q_fd L (nI a) 4 = nI (q_wh L a) := by
  have hm : ∀ k, nI a ∈ (L k).map nI ↔ a ∈ L k := fun k => q_map_in (fun b hb => (h.2.1 k b hb).1) ha
  show (if nI a ∈ (L 4).map nI then nI 4 else if nI a ∈ (L 3).map nI then nI 3 else if nI a ∈ (L 2).map nI then nI 2 else if nI a ∈ (L 1).map nI then nI 1 else nI 0) = _
  by_cases h4 : a ∈ L 4
  · rw [if_pos ((hm 4).mpr h4), q_wh_of h h4]
  · rw [if_neg (fun q => h4 ((hm 4).mp q))]
    by_cases h3 : a ∈ L 3
    · rw [if_pos ((hm 3).mpr h3), q_wh_of h h3]
    · rw [if_neg (fun q => h3 ((hm 3).mp q))]
      by_cases h2 : a ∈ L 2
      · rw [if_pos ((hm 2).mpr h2), q_wh_of h h2]
      · rw [if_neg (fun q => h2 ((hm 2).mp q))]
        by_cases h1 : a ∈ L 1
        · rw [if_pos ((hm 1).mpr h1), q_wh_of h h1]
        · rw [if_neg (fun q => h1 ((hm 1).mp q))]
          unfold q_wh
          rw [if_neg h1, if_neg h2, if_neg h3, if_neg h4]
theorem q_fd_out {L : Nat → List Nat} {x : Int32} (h : q_ok L) (hx : ∀ a, a < 64 → x ≠ nI a) : ∀ k, q_fd L x k = nI 0
  | 0 => rfl
  | k + 1 => by
    show (if x ∈ (L (k + 1)).map nI then nI (k + 1) else q_fd L x k) = _
    rw [if_neg (fun q => ?_)]
    · exact q_fd_out h hx k
    · obtain ⟨b, hb, e⟩ := List.mem_map.mp q
      exact hx b (h.2.1 (k + 1) b hb).1 e.symm
/-! loops over arrays -/
def q_z (n : Nat) (f : Nat → Int32) : Nat → Int32 := fun j => if j < n then nI 0 else f j
theorem q_z_0 (f : Nat → Int32) : q_z 0 f = f := by
  funext j
  unfold q_z
  rw [if_neg (by omega)]
theorem q_z_s (f : Nat → Int32) (n : Nat) : upd (q_z n f) n (nI 0) = q_z (n + 1) f := by
  funext j
  by_cases hj : j = n
  · rw [hj, pk_us]
    unfold q_z
    rw [if_pos (by omega)]
  · rw [pk_un hj]
    unfold q_z
    by_cases hc : j < n
    · rw [if_pos hc, if_pos (by omega)]
    · rw [if_neg hc, if_neg (by omega)]
theorem q_z_in (f : Nat → Int32) {n j : Nat} (h : j < n) : q_z n f j = nI 0 := by
  unfold q_z
  rw [if_pos h]
theorem q_z_z (n : Nat) : q_z n (fun _ => nI 0) = fun _ => nI 0 := by
  funext j
  unfold q_z
  by_cases h : j < n
  · rw [if_pos h]
  · rw [if_neg h]
/-- flush, behind n addresses -/
def q_fb (n : Nat) (wo ba di : Nat → Int32) : Nat → Int32 := fun j => if j < n ∧ di j ≠ nI 0 then wo j else ba j
theorem q_fb_0 (wo ba di : Nat → Int32) : q_fb 0 wo ba di = ba := by
  funext j
  unfold q_fb
  rw [if_neg (by omega)]
theorem q_fb_y {wo ba di : Nat → Int32} {n : Nat} (h : di n ≠ nI 0) : upd (q_fb n wo ba di) n (wo n) = q_fb (n + 1) wo ba di := by
  funext j
  by_cases hj : j = n
  · rw [hj, pk_us]
    unfold q_fb
    rw [if_pos ⟨by omega, h⟩]
  · rw [pk_un hj]
    unfold q_fb
    by_cases hc : j < n ∧ di j ≠ nI 0
    · rw [if_pos hc, if_pos ⟨by omega, hc.2⟩]
    · rw [if_neg hc, if_neg (fun q => hc ⟨by omega, q.2⟩)]
theorem q_fb_n {wo ba di : Nat → Int32} {n : Nat} (h : di n = nI 0) : q_fb n wo ba di = q_fb (n + 1) wo ba di := by
  funext j
  unfold q_fb
  by_cases hc : j < n ∧ di j ≠ nI 0
  · rw [if_pos hc, if_pos ⟨by omega, hc.2⟩]
  · rw [if_neg hc, if_neg (fun q => hc ⟨?_, q.2⟩)]
    by_cases hj : j = n
    · exact absurd (by rw [hj]; exact h) q.2
    · omega
theorem q_fb_at {wo ba di : Nat → Int32} {n : Nat} : q_fb n wo ba di n = ba n := by
  unfold q_fb
  rw [if_neg (by omega)]
theorem q_z_at {f : Nat → Int32} {n : Nat} : q_z n f n = f n := by
  unfold q_z
  rw [if_neg (by omega)]
theorem q_z_n {f : Nat → Int32} {n : Nat} (h : f n = nI 0) : q_z n f = q_z (n + 1) f := by
  rw [← q_z_s]
  funext j
  by_cases hj : j = n
  · rw [hj, pk_us, q_z_at]; exact h
  · rw [pk_un hj]
def q_ct (di : Nat → Int32) : Nat → Int32
  | 0 => nI 0
  | n + 1 => if di n = nI 0 then q_ct di n else q_ct di n + nI 1
theorem q_upd_self {f : Nat → Int32} {n : Nat} {v : Int32} (h : f n = v) : upd f n v = f := by
  funext j
  by_cases hj : j = n
  · rw [hj, pk_us]; exact h.symm
  · rw [pk_un hj]
end
section
/-! PURE: what a call does, as a value; both sides are tied to it. A state of the lists' part: L, backing, dirty, gone -/
abbrev q_M : Type := (Nat → List Nat) × (Nat → Int32) × (Nat → Int32) × Int32
def q_gb (wo ba di : Nat → Int32) (o : Nat) : Nat → Int32 := if di o = nI 0 then ba else upd ba o (wo o)
/-- o goes (it is written back, if dirty), and moves to list k -/
def q_ev (wo : Nat → Int32) (o k : Nat) (s : q_M) : q_M := (q_mv s.1 o k, q_gb wo s.2.1 s.2.2.1 o, upd s.2.2.1 o (nI 0), s.2.2.2 + nI 1)
def q_dr (o : Nat) (s : q_M) : q_M := (q_mv s.1 o 0, s.2)
abbrev q_fst (L : Nat → List Nat) (tg a : Nat) : Prop := tg < (L 1).length ∨ ((L 1).length = tg ∧ 0 < tg ∧ q_wh L a = 4)
def q_mk (wo : Nat → Int32) (tg a : Nat) (s : q_M) : q_M := if q_fst s.1 tg a then q_ev wo (q_last 0 (s.1 1)) 3 s else q_ev wo (q_last 0 (s.1 2)) 4 s
def q_fr (wo : Nat → Int32) (c tg a : Nat) (s : q_M) : q_M :=
  if (s.1 1).length + (s.1 3).length = c then (if (s.1 1).length < c then q_mk wo tg a (q_dr (q_last 0 (s.1 3)) s) else q_ev wo (q_last 0 (s.1 1)) 0 s)
  else if c ≤ (s.1 1).length + (s.1 2).length + (s.1 3).length + (s.1 4).length then (if (s.1 1).length + (s.1 2).length + (s.1 3).length + (s.1 4).length = 2 * c then q_mk wo tg a (q_dr (q_last 0 (s.1 4)) s) else q_mk wo tg a s)
  else s
def q_tg (c : Nat) (L : Nat → List Nat) (tg k : Nat) : Nat := if k = 3 then min c (tg + max 1 ((L 4).length / (L 3).length)) else if k = 4 then tg - max 1 ((L 3).length / (L 4).length) else tg
/-- behind the making of room, in a miss -/
def q_ms (c a : Nat) (L : Nat → List Nat) (wo ba di : Nat → Int32) (tg : Nat) (go : Int32) : q_M := if q_wh L a = 0 then q_fr wo c tg a (L, ba, di, go) else q_mk wo (q_tg c L tg (q_wh L a)) a (L, ba, di, go)
/-- a whole state: L, words, backing, dirty, target, hits, misses, gone -/
abbrev q_St : Type := (Nat → List Nat) × (Nat → Int32) × (Nat → Int32) × (Nat → Int32) × Nat × Int32 × Int32 × Int32
def q_rq (c a : Nat) (L : Nat → List Nat) (wo ba di : Nat → Int32) (tg : Nat) (hi mi go : Int32) : q_St :=
  if q_wh L a = 1 ∨ q_wh L a = 2 then (q_mv L a 2, wo, ba, di, tg, hi + nI 1, mi, go)
  else (q_mv (q_ms c a L wo ba di tg go).1 a (if q_wh L a = 0 then 1 else 2), upd wo a ((q_ms c a L wo ba di tg go).2.1 a), (q_ms c a L wo ba di tg go).2.1, (q_ms c a L wo ba di tg go).2.2.1, q_tg c L tg (q_wh L a), hi, mi + nI 1, (q_ms c a L wo ba di tg go).2.2.2)
/-! the invariant -/
def q_num (c n1 n2 n3 n4 : Nat) : Prop := n1 + n3 ≤ c ∧ n1 + n2 ≤ c ∧ n1 + n2 + n3 + n4 ≤ 2 * c ∧ (n1 + n2 = c ∨ (n3 = 0 ∧ n4 = 0))
def q_od (L : Nat → List Nat) (di : Nat → Int32) : Prop := q_ok L ∧ ∀ a, q_wh L a ≠ 1 → q_wh L a ≠ 2 → di a = nI 0
def q_inv (c : Nat) (L : Nat → List Nat) (di : Nat → Int32) (tg : Nat) : Prop := q_od L di ∧ (1 ≤ c ∧ c ≤ 24 ∧ tg ≤ c) ∧ q_num c (L 1).length (L 2).length (L 3).length (L 4).length
theorem q_ne {l : List Nat} (h : 0 < l.length) : l ≠ [] := List.length_pos_iff.mp h
theorem q_pos {l : List Nat} {a : Nat} (h : a ∈ l) : 0 < l.length := List.length_pos_of_mem h
theorem q_lt {L : Nat → List Nat} {k : Nat} (h : q_ok L) (hne : L k ≠ []) : q_last 0 (L k) < 64 := (h.2.1 k _ (q_last_in 0 hne)).1
theorem q_fst_ne {L : Nat → List Nat} {tg a : Nat} (h : q_fst L tg a) : L 1 ≠ [] := q_ne (by rcases h with h | h <;> omega)
theorem q_mv_2 {L : Nat → List Nat} {o j k : Nat} (h : q_ok L) (ho : o ∈ L j) (hj : j ≠ 2) (hk : k ≠ 2) : q_mv L o k 2 = L 2 := by
  have e : q_rm L o 2 = L 2 := List.erase_of_not_mem (fun q => hj (h.2.2 j 2 o ho q))
  unfold q_mv
  by_cases h0 : k = 0
  · rw [if_pos h0]; exact e
  · rw [if_neg h0]
    show (if 2 = k then o :: q_rm L o 2 else q_rm L o 2) = L 2
    rw [if_neg (fun q => hk q.symm)]; exact e
theorem q_frA {c : Nat} {L : Nat → List Nat} {di : Nat → Int32} {tg : Nat} (h : q_inv c L di tg) (h1 : (L 1).length + (L 3).length = c) (h2 : (L 1).length < c) : L 3 ≠ [] ∧ q_last 0 (L 3) < 64 ∧ q_ok (q_mv L (q_last 0 (L 3)) 0) ∧ q_mv L (q_last 0 (L 3)) 0 2 ≠ [] := by
  obtain ⟨⟨hok, -⟩, hc, hn⟩ := h
  unfold q_num at hn
  have hne : L 3 ≠ [] := q_ne (by omega)
  refine ⟨hne, q_lt hok hne, q_ok_mv hok (q_lt hok hne) (by decide), ?_⟩
  rw [q_mv_2 hok (q_last_in 0 hne) (by decide) (by decide)]
  exact q_ne (by omega)
theorem q_frB {c : Nat} {L : Nat → List Nat} {di : Nat → Int32} {tg : Nat} (h : q_inv c L di tg) (h1 : (L 1).length + (L 3).length = c) (h2 : ¬ (L 1).length < c) : L 1 ≠ [] ∧ q_last 0 (L 1) < 64 := by
  obtain ⟨⟨hok, -⟩, hc, hn⟩ := h
  have hne : L 1 ≠ [] := q_ne (by omega)
  exact ⟨hne, q_lt hok hne⟩
theorem q_frC {c : Nat} {L : Nat → List Nat} {di : Nat → Int32} {tg : Nat} (h : q_inv c L di tg) (h1 : ¬ (L 1).length + (L 3).length = c) (h3 : (L 1).length + (L 2).length + (L 3).length + (L 4).length = 2 * c) : L 4 ≠ [] ∧ q_last 0 (L 4) < 64 ∧ q_ok (q_mv L (q_last 0 (L 4)) 0) ∧ q_mv L (q_last 0 (L 4)) 0 2 ≠ [] := by
  obtain ⟨⟨hok, -⟩, hc, hn⟩ := h
  unfold q_num at hn
  have hne : L 4 ≠ [] := q_ne (by omega)
  refine ⟨hne, q_lt hok hne, q_ok_mv hok (q_lt hok hne) (by decide), ?_⟩
  rw [q_mv_2 hok (q_last_in 0 hne) (by decide) (by decide)]
  exact q_ne (by omega)
theorem q_frD {c : Nat} {L : Nat → List Nat} {di : Nat → Int32} {tg : Nat} (h : q_inv c L di tg) (h1 : ¬ (L 1).length + (L 3).length = c) (h2 : c ≤ (L 1).length + (L 2).length + (L 3).length + (L 4).length) : L 2 ≠ [] := by
  obtain ⟨⟨hok, -⟩, hc, hn⟩ := h
  unfold q_num at hn
  exact q_ne (by omega)
theorem q_rq3 {c : Nat} {L : Nat → List Nat} {di : Nat → Int32} {tg a : Nat} (h : q_inv c L di tg) (hk : q_wh L a = 3) : 0 < (L 3).length ∧ L 2 ≠ [] := by
  obtain ⟨⟨hok, -⟩, hc, hn⟩ := h
  unfold q_num at hn
  have h3 := q_pos (q_wh_is hk (by decide))
  exact ⟨h3, q_ne (by omega)⟩
theorem q_rq4 {c : Nat} {L : Nat → List Nat} {di : Nat → Int32} {tg a : Nat} (h : q_inv c L di tg) (hk : q_wh L a = 4) : 0 < (L 4).length ∧ (¬ q_fst L (q_tg c L tg 4) a → L 2 ≠ []) := by
  obtain ⟨⟨hok, -⟩, hc, hn⟩ := h
  unfold q_num at hn
  have h4 := q_pos (q_wh_is hk (by decide))
  refine ⟨h4, fun hf => ?_⟩
  have e : q_tg c L tg 4 = tg - max 1 ((L 3).length / (L 4).length) := rfl
  rw [e] at hf
  have hf2 : ¬ (tg - max 1 ((L 3).length / (L 4).length) < (L 1).length) := fun q => hf (Or.inl q)
  have hm : 1 ≤ max 1 ((L 3).length / (L 4).length) := Nat.le_max_left _ _
  generalize max 1 ((L 3).length / (L 4).length) = d at hf2 hm
  exact q_ne (by omega)
theorem q_len_mv {L : Nat → List Nat} {o j : Nat} (k : Nat) (h : q_ok L) (ho : o ∈ L j) (i : Nat) : (q_mv L o k i).length = (if i = j then (L i).length - 1 else (L i).length) + (if k ≠ 0 ∧ i = k then 1 else 0) := by
  unfold q_mv
  by_cases h0 : k = 0
  · rw [if_pos h0, q_len_rm h ho, if_neg (fun q : k ≠ 0 ∧ i = k => q.1 h0), Nat.add_zero]
  · rw [if_neg h0, q_len_ins, q_len_rm h ho]
    by_cases hi : i = k
    · rw [if_pos hi, if_pos (show k ≠ 0 ∧ i = k from ⟨h0, hi⟩)]
    · rw [if_neg hi, if_neg (fun q : k ≠ 0 ∧ i = k => hi q.2), Nat.add_zero]
theorem q_len_mv0 {L : Nat → List Nat} {o : Nat} (k : Nat) (h : q_ok L) (ho : q_wh L o = 0) (i : Nat) : (q_mv L o k i).length = (L i).length + (if k ≠ 0 ∧ i = k then 1 else 0) := by
  unfold q_mv
  by_cases h0 : k = 0
  · rw [if_pos h0, q_rm_same h ho, if_neg (fun q : k ≠ 0 ∧ i = k => q.1 h0), Nat.add_zero]
  · rw [if_neg h0, q_len_ins, q_rm_same h ho]
    by_cases hi : i = k
    · rw [if_pos hi, if_pos (show k ≠ 0 ∧ i = k from ⟨h0, hi⟩)]
    · rw [if_neg hi, if_neg (fun q : k ≠ 0 ∧ i = k => hi q.2), Nat.add_zero]
theorem q_mk_is {wo : Nat → Int32} {tg a : Nat} {s : q_M} (hne : ¬ q_fst s.1 tg a → s.1 2 ≠ []) : ∃ o, (o ∈ s.1 1 ∧ q_mk wo tg a s = q_ev wo o 3 s) ∨ (o ∈ s.1 2 ∧ q_mk wo tg a s = q_ev wo o 4 s) := by
  unfold q_mk
  by_cases h : q_fst s.1 tg a
  · rw [if_pos h]
    exact ⟨q_last 0 (s.1 1), Or.inl ⟨q_last_in 0 (q_fst_ne h), rfl⟩⟩
  · rw [if_neg h]
    exact ⟨q_last 0 (s.1 2), Or.inr ⟨q_last_in 0 (hne h), rfl⟩⟩
theorem q_od_ev {wo : Nat → Int32} {o k : Nat} {s : q_M} (h : q_od s.1 s.2.2.1) (ho : o < 64) (hk : k ≤ 4) : q_od (q_ev wo o k s).1 (q_ev wo o k s).2.2.1 := by
  refine ⟨q_ok_mv h.1 ho hk, fun b h1 h2 => ?_⟩
  show upd s.2.2.1 o (nI 0) b = nI 0
  by_cases hb : b = o
  · rw [hb, pk_us]
  · rw [pk_un hb]
    have e : q_wh (q_ev wo o k s).1 b = q_wh s.1 b := by
      show q_wh (q_mv s.1 o k) b = _
      rw [q_wh_mv h.1 ho hk, if_neg hb]
    rw [e] at h1 h2
    exact h.2 b h1 h2
theorem q_od_dr {o j : Nat} {s : q_M} (h : q_od s.1 s.2.2.1) (ho : o ∈ s.1 j) (hj1 : j ≠ 1) (hj2 : j ≠ 2) : q_od (q_dr o s).1 (q_dr o s).2.2.1 := by
  have h64 := (h.1.2.1 j o ho).1
  refine ⟨q_ok_mv (k := 0) h.1 h64 (by decide), fun b h1 h2 => ?_⟩
  have e : q_wh (q_dr o s).1 b = if b = o then 0 else q_wh s.1 b := q_wh_mv (k := 0) h.1 h64 (by decide)
  rw [e] at h1 h2
  show s.2.2.1 b = nI 0
  by_cases hb : b = o
  · refine h.2 b ?_ ?_
    · rw [hb, q_wh_of h.1 ho]; exact hj1
    · rw [hb, q_wh_of h.1 ho]; exact hj2
  · rw [if_neg hb] at h1 h2
    exact h.2 b h1 h2
theorem q_od_to {L : Nat → List Nat} {di : Nat → Int32} {a k : Nat} (h : q_od L di) (ha : a < 64) (hk : k = 1 ∨ k = 2) : q_od (q_mv L a k) di ∧ q_wh (q_mv L a k) a = k := by
  have hk4 : k ≤ 4 := by omega
  refine ⟨⟨q_ok_mv h.1 ha hk4, fun b h1 h2 => ?_⟩, by rw [q_wh_mv h.1 ha hk4, if_pos rfl]⟩
  rw [q_wh_mv h.1 ha hk4] at h1 h2
  by_cases hb : b = a
  · rw [if_pos hb] at h1 h2
    omega
  · rw [if_neg hb] at h1 h2
    exact h.2 b h1 h2
end
section
/-! PURE: a request keeps the invariant -/
/-- what must hold ahead of the last move, of an address that is in list k -/
def q_pre (c k n1 n2 n3 n4 : Nat) : Prop := (k = 0 ∧ q_num c (n1 + 1) n2 n3 n4) ∨ (k = 3 ∧ 1 ≤ n3 ∧ q_num c n1 (n2 + 1) (n3 - 1) n4) ∨ (k = 4 ∧ 1 ≤ n4 ∧ q_num c n1 (n2 + 1) n3 (n4 - 1))
theorem q_fin {c a k : Nat} {L : Nat → List Nat} (h : q_ok L) (hk : q_wh L a = k) (hp : q_pre c k (L 1).length (L 2).length (L 3).length (L 4).length) : q_num c (q_mv L a (if k = 0 then 1 else 2) 1).length (q_mv L a (if k = 0 then 1 else 2) 2).length (q_mv L a (if k = 0 then 1 else 2) 3).length (q_mv L a (if k = 0 then 1 else 2) 4).length := by
  rcases hp with ⟨e, hp⟩ | ⟨e, h1, hp⟩ | ⟨e, h1, hp⟩
  · rw [if_pos e]
    rw [e] at hk
    have e0 := q_len_mv0 1 h hk
    have e1 := e0 1
    have e2 := e0 2
    have e3 := e0 3
    have e4 := e0 4
    simp at e1 e2 e3 e4
    rw [e1, e2, e3, e4]
    exact hp
  · rw [if_neg (by omega)]
    rw [e] at hk
    have e0 := q_len_mv 2 h (q_wh_is hk (by decide))
    have e1 := e0 1
    have e2 := e0 2
    have e3 := e0 3
    have e4 := e0 4
    simp at e1 e2 e3 e4
    rw [e1, e2, e3, e4]
    exact hp
  · rw [if_neg (by omega)]
    rw [e] at hk
    have e0 := q_len_mv 2 h (q_wh_is hk (by decide))
    have e1 := e0 1
    have e2 := e0 2
    have e3 := e0 3
    have e4 := e0 4
    simp at e1 e2 e3 e4
    rw [e1, e2, e3, e4]
    exact hp
/-- lengths behind one move out of list j into list k -/
theorem q_ln {L : Nat → List Nat} {o j : Nat} (k : Nat) (h : q_ok L) (ho : o ∈ L j) : (∀ i, i ≠ j → i ≠ k → (q_mv L o k i).length = (L i).length) ∧ (j ≠ k → (q_mv L o k j).length = (L j).length - 1) ∧ (j ≠ k → k ≠ 0 → (q_mv L o k k).length = (L k).length + 1) := by
  have e := q_len_mv k h ho
  refine ⟨fun i h1 h2 => ?_, fun h1 => ?_, fun h1 h2 => ?_⟩
  · rw [e i, if_neg h1, if_neg (fun q => h2 q.2), Nat.add_zero]
  · rw [e j, if_pos rfl, if_neg (fun q => h1 q.2), Nat.add_zero]
  · rw [e k, if_neg (fun q => h1 q.symm), if_pos ⟨h2, rfl⟩]
/-- making room, and then the last move's numbers -/
theorem q_mk_ok {wo : Nat → Int32} {c tg a : Nat} {s : q_M} (h : q_od s.1 s.2.2.1) (hne : ¬ q_fst s.1 tg a → s.1 2 ≠ []) (hk1 : q_wh s.1 a ≠ 1) (hk2 : q_wh s.1 a ≠ 2)
    (hp1 : 1 ≤ (s.1 1).length → q_pre c (q_wh s.1 a) ((s.1 1).length - 1) (s.1 2).length ((s.1 3).length + 1) (s.1 4).length) (hp2 : 1 ≤ (s.1 2).length → q_pre c (q_wh s.1 a) (s.1 1).length ((s.1 2).length - 1) (s.1 3).length ((s.1 4).length + 1)) :
    q_od (q_mk wo tg a s).1 (q_mk wo tg a s).2.2.1 ∧ q_wh (q_mk wo tg a s).1 a = q_wh s.1 a ∧ q_pre c (q_wh s.1 a) ((q_mk wo tg a s).1 1).length ((q_mk wo tg a s).1 2).length ((q_mk wo tg a s).1 3).length ((q_mk wo tg a s).1 4).length := by
  obtain ⟨o, ⟨ho, e⟩ | ⟨ho, e⟩⟩ := q_mk_is (wo := wo) hne
  · rw [e]
    have h64 := (h.1.2.1 1 o ho).1
    have hl := q_ln 3 h.1 ho
    refine ⟨q_od_ev h h64 (by decide), ?_, ?_⟩
    · show q_wh (q_mv s.1 o 3) a = _
      rw [q_wh_mv h.1 h64 (by decide), if_neg (fun q => hk1 (by rw [q]; exact q_wh_of h.1 ho))]
    · show q_pre c (q_wh s.1 a) (q_mv s.1 o 3 1).length (q_mv s.1 o 3 2).length (q_mv s.1 o 3 3).length (q_mv s.1 o 3 4).length
      rw [hl.2.1 (by decide), hl.1 2 (by decide) (by decide), hl.2.2 (by decide) (by decide), hl.1 4 (by decide) (by decide)]
      exact hp1 (q_pos ho)
  · rw [e]
    have h64 := (h.1.2.1 2 o ho).1
    have hl := q_ln 4 h.1 ho
    refine ⟨q_od_ev h h64 (by decide), ?_, ?_⟩
    · show q_wh (q_mv s.1 o 4) a = _
      rw [q_wh_mv h.1 h64 (by decide), if_neg (fun q => hk2 (by rw [q]; exact q_wh_of h.1 ho))]
    · show q_pre c (q_wh s.1 a) (q_mv s.1 o 4 1).length (q_mv s.1 o 4 2).length (q_mv s.1 o 4 3).length (q_mv s.1 o 4 4).length
      rw [hl.1 1 (by decide) (by decide), hl.2.1 (by decide), hl.1 3 (by decide) (by decide), hl.2.2 (by decide) (by decide)]
      exact hp2 (q_pos ho)
theorem q_fr_ok {wo ba : Nat → Int32} {c tg a : Nat} {L : Nat → List Nat} {di : Nat → Int32} {go : Int32} (h : q_inv c L di tg) (hk : q_wh L a = 0) :
    q_od (q_fr wo c tg a (L, ba, di, go)).1 (q_fr wo c tg a (L, ba, di, go)).2.2.1 ∧ q_wh (q_fr wo c tg a (L, ba, di, go)).1 a = 0 ∧ q_pre c 0 ((q_fr wo c tg a (L, ba, di, go)).1 1).length ((q_fr wo c tg a (L, ba, di, go)).1 2).length ((q_fr wo c tg a (L, ba, di, go)).1 3).length ((q_fr wo c tg a (L, ba, di, go)).1 4).length := by
  have hod := h.1
  have hc := h.2.1
  have hn := h.2.2
  unfold q_num at hn
  by_cases hA : (L 1).length + (L 3).length = c
  · by_cases hB : (L 1).length < c
    · have e : q_fr wo c tg a (L, ba, di, go) = q_mk wo tg a (q_dr (q_last 0 (L 3)) (L, ba, di, go)) := by
        unfold q_fr
        rw [if_pos hA, if_pos hB]
      rw [e]
      obtain ⟨h3, h364, hok, h2⟩ := q_frA h hA hB
      have ho := q_last_in 0 h3
      have hl := q_ln 0 hod.1 ho
      have hw : q_wh (q_dr (q_last 0 (L 3)) (L, ba, di, go)).1 a = 0 := by
        show q_wh (q_mv L (q_last 0 (L 3)) 0) a = 0
        rw [q_wh_mv hod.1 h364 (by decide)]
        by_cases q : a = q_last 0 (L 3)
        · rw [if_pos q]
        · rw [if_neg q]; exact hk
      have n1 : ((q_dr (q_last 0 (L 3)) (L, ba, di, go)).1 1).length = (L 1).length := hl.1 1 (by decide) (by decide)
      have n2 : ((q_dr (q_last 0 (L 3)) (L, ba, di, go)).1 2).length = (L 2).length := hl.1 2 (by decide) (by decide)
      have n3 : ((q_dr (q_last 0 (L 3)) (L, ba, di, go)).1 3).length = (L 3).length - 1 := hl.2.1 (by decide)
      have n4 : ((q_dr (q_last 0 (L 3)) (L, ba, di, go)).1 4).length = (L 4).length := hl.1 4 (by decide) (by decide)
      have hr := q_mk_ok (wo := wo) (c := c) (tg := tg) (a := a) (s := q_dr (q_last 0 (L 3)) (L, ba, di, go)) (q_od_dr (s := (L, ba, di, go)) hod ho (by decide) (by decide)) (fun _ => h2) (by rw [hw]; decide) (by rw [hw]; decide)
        (fun q => by rw [hw, n1, n2, n3, n4]; rw [n1] at q; exact Or.inl ⟨rfl, by unfold q_num; omega⟩) (fun q => by rw [hw, n1, n2, n3, n4]; rw [n2] at q; exact Or.inl ⟨rfl, by unfold q_num; omega⟩)
      rw [hw] at hr
      exact hr
    · have e : q_fr wo c tg a (L, ba, di, go) = q_ev wo (q_last 0 (L 1)) 0 (L, ba, di, go) := by
        unfold q_fr
        rw [if_pos hA, if_neg hB]
      rw [e]
      obtain ⟨h1, h164⟩ := q_frB h hA hB
      have ho := q_last_in 0 h1
      have hl := q_ln 0 hod.1 ho
      refine ⟨q_od_ev (s := (L, ba, di, go)) hod h164 (by decide), ?_, ?_⟩
      · show q_wh (q_mv L (q_last 0 (L 1)) 0) a = 0
        rw [q_wh_mv hod.1 h164 (by decide)]
        by_cases q : a = q_last 0 (L 1)
        · rw [if_pos q]
        · rw [if_neg q]; exact hk
      · show q_pre c 0 (q_mv L (q_last 0 (L 1)) 0 1).length (q_mv L (q_last 0 (L 1)) 0 2).length (q_mv L (q_last 0 (L 1)) 0 3).length (q_mv L (q_last 0 (L 1)) 0 4).length
        rw [hl.2.1 (by decide), hl.1 2 (by decide) (by decide), hl.1 3 (by decide) (by decide), hl.1 4 (by decide) (by decide)]
        exact Or.inl ⟨rfl, by unfold q_num; omega⟩
  · by_cases hC : c ≤ (L 1).length + (L 2).length + (L 3).length + (L 4).length
    · by_cases hD : (L 1).length + (L 2).length + (L 3).length + (L 4).length = 2 * c
      · have e : q_fr wo c tg a (L, ba, di, go) = q_mk wo tg a (q_dr (q_last 0 (L 4)) (L, ba, di, go)) := by
          unfold q_fr
          rw [if_neg hA, if_pos hC, if_pos hD]
        rw [e]
        obtain ⟨h4, h464, hok, h2⟩ := q_frC h hA hD
        have ho := q_last_in 0 h4
        have hl := q_ln 0 hod.1 ho
        have hw : q_wh (q_dr (q_last 0 (L 4)) (L, ba, di, go)).1 a = 0 := by
          show q_wh (q_mv L (q_last 0 (L 4)) 0) a = 0
          rw [q_wh_mv hod.1 h464 (by decide)]
          by_cases q : a = q_last 0 (L 4)
          · rw [if_pos q]
          · rw [if_neg q]; exact hk
        have n1 : ((q_dr (q_last 0 (L 4)) (L, ba, di, go)).1 1).length = (L 1).length := hl.1 1 (by decide) (by decide)
        have n2 : ((q_dr (q_last 0 (L 4)) (L, ba, di, go)).1 2).length = (L 2).length := hl.1 2 (by decide) (by decide)
        have n3 : ((q_dr (q_last 0 (L 4)) (L, ba, di, go)).1 3).length = (L 3).length := hl.1 3 (by decide) (by decide)
        have n4 : ((q_dr (q_last 0 (L 4)) (L, ba, di, go)).1 4).length = (L 4).length - 1 := hl.2.1 (by decide)
        have hr := q_mk_ok (wo := wo) (c := c) (tg := tg) (a := a) (s := q_dr (q_last 0 (L 4)) (L, ba, di, go)) (q_od_dr (s := (L, ba, di, go)) hod ho (by decide) (by decide)) (fun _ => h2) (by rw [hw]; decide) (by rw [hw]; decide)
          (fun q => by rw [hw, n1, n2, n3, n4]; rw [n1] at q; exact Or.inl ⟨rfl, by unfold q_num; omega⟩) (fun q => by rw [hw, n1, n2, n3, n4]; rw [n2] at q; exact Or.inl ⟨rfl, by unfold q_num; omega⟩)
        rw [hw] at hr
        exact hr
      · have e : q_fr wo c tg a (L, ba, di, go) = q_mk wo tg a (L, ba, di, go) := by
          unfold q_fr
          rw [if_neg hA, if_pos hC, if_neg hD]
        rw [e]
        have h2 := q_frD h hA hC
        have hw : q_wh ((L, ba, di, go) : q_M).1 a = 0 := hk
        have hr := q_mk_ok (wo := wo) (c := c) (tg := tg) (a := a) (s := (L, ba, di, go)) hod (fun _ => h2) (by rw [hw]; decide) (by rw [hw]; decide)
          (fun q => by rw [hw]; have q : 1 ≤ (L 1).length := q; exact Or.inl ⟨rfl, by unfold q_num; dsimp only; omega⟩) (fun q => by rw [hw]; have q : 1 ≤ (L 2).length := q; exact Or.inl ⟨rfl, by unfold q_num; dsimp only; omega⟩)
        rw [hw] at hr
        exact hr
    · have e : q_fr wo c tg a (L, ba, di, go) = (L, ba, di, go) := by
        unfold q_fr
        rw [if_neg hA, if_neg hC]
      rw [e]
      exact ⟨hod, hk, Or.inl ⟨rfl, by unfold q_num; dsimp only; omega⟩⟩
theorem q_ms_ok {wo ba : Nat → Int32} {c tg a : Nat} {L : Nat → List Nat} {di : Nat → Int32} {go : Int32} (h : q_inv c L di tg) (hk1 : q_wh L a ≠ 1) (hk2 : q_wh L a ≠ 2) :
    q_od (q_ms c a L wo ba di tg go).1 (q_ms c a L wo ba di tg go).2.2.1 ∧ q_wh (q_ms c a L wo ba di tg go).1 a = q_wh L a ∧ q_pre c (q_wh L a) ((q_ms c a L wo ba di tg go).1 1).length ((q_ms c a L wo ba di tg go).1 2).length ((q_ms c a L wo ba di tg go).1 3).length ((q_ms c a L wo ba di tg go).1 4).length := by
  have hod := h.1
  have hc := h.2.1
  have hn := h.2.2
  unfold q_num at hn
  have hle := q_wh_le L a
  by_cases h0 : q_wh L a = 0
  · have e : q_ms c a L wo ba di tg go = q_fr wo c tg a (L, ba, di, go) := by
      unfold q_ms
      rw [if_pos h0]
    rw [e, h0]
    exact q_fr_ok h h0
  · have e : q_ms c a L wo ba di tg go = q_mk wo (q_tg c L tg (q_wh L a)) a (L, ba, di, go) := by
      unfold q_ms
      rw [if_neg h0]
    rw [e]
    rcases (show q_wh L a = 3 ∨ q_wh L a = 4 by omega) with hw | hw
    · have h3 := q_rq3 h hw
      have hp := q_pos (q_wh_is hw (by decide))
      refine q_mk_ok (s := (L, ba, di, go)) hod (fun _ => h3.2) hk1 hk2 (fun q => ?_) (fun q => ?_)
      · have q : 1 ≤ (L 1).length := q
        exact Or.inr (Or.inl ⟨hw, by dsimp only; omega, by unfold q_num; dsimp only; omega⟩)
      · have q : 1 ≤ (L 2).length := q
        exact Or.inr (Or.inl ⟨hw, by dsimp only; omega, by unfold q_num; dsimp only; omega⟩)
    · have h4 := q_rq4 h hw
      have hp := q_pos (q_wh_is hw (by decide))
      refine q_mk_ok (s := (L, ba, di, go)) hod (fun q => h4.2 (by rw [hw] at q; exact q)) hk1 hk2 (fun q => ?_) (fun q => ?_)
      · have q : 1 ≤ (L 1).length := q
        exact Or.inr (Or.inr ⟨hw, by dsimp only; omega, by unfold q_num; dsimp only; omega⟩)
      · have q : 1 ≤ (L 2).length := q
        exact Or.inr (Or.inr ⟨hw, by dsimp only; omega, by unfold q_num; dsimp only; omega⟩)
theorem q_tg_le {c tg k : Nat} {L : Nat → List Nat} (h : tg ≤ c) : q_tg c L tg k ≤ c := by
  unfold q_tg
  by_cases h3 : k = 3
  · rw [if_pos h3]; exact Nat.min_le_left _ _
  · rw [if_neg h3]
    by_cases h4 : k = 4
    · rw [if_pos h4]; omega
    · rw [if_neg h4]; exact h
/-- a request keeps the invariant, and its address is then in list 1 or 2 -/
theorem q_rq_ok {wo ba : Nat → Int32} {c tg a : Nat} {L : Nat → List Nat} {di : Nat → Int32} {hi mi go : Int32} (h : q_inv c L di tg) (ha : a < 64) :
    q_inv c (q_rq c a L wo ba di tg hi mi go).1 (q_rq c a L wo ba di tg hi mi go).2.2.2.1 (q_rq c a L wo ba di tg hi mi go).2.2.2.2.1 ∧ (q_wh (q_rq c a L wo ba di tg hi mi go).1 a = 1 ∨ q_wh (q_rq c a L wo ba di tg hi mi go).1 a = 2) := by
  by_cases hk : q_wh L a = 1 ∨ q_wh L a = 2
  · have e : q_rq c a L wo ba di tg hi mi go = (q_mv L a 2, wo, ba, di, tg, hi + nI 1, mi, go) := by
      unfold q_rq
      rw [if_pos hk]
    rw [e]
    have hn := h.2.2
    unfold q_num at hn
    have h1 := q_od_to h.1 ha (Or.inr rfl : (2 : Nat) = 1 ∨ (2 : Nat) = 2)
    refine ⟨⟨h1.1, h.2.1, ?_⟩, Or.inr h1.2⟩
    show q_num c (q_mv L a 2 1).length (q_mv L a 2 2).length (q_mv L a 2 3).length (q_mv L a 2 4).length
    rcases hk with hk | hk
    · have hin := q_wh_is hk (by decide)
      have hl := q_ln 2 h.1.1 hin
      have hp := q_pos hin
      rw [hl.2.1 (by decide), hl.2.2 (by decide) (by decide), hl.1 3 (by decide) (by decide), hl.1 4 (by decide) (by decide)]
      unfold q_num
      omega
    · have hin := q_wh_is hk (by decide)
      have e0 := q_len_mv 2 h.1.1 hin
      have hp := q_pos hin
      have e1 := e0 1
      have e2 := e0 2
      have e3 := e0 3
      have e4 := e0 4
      simp at e1 e2 e3 e4
      rw [e1, e2, e3, e4]
      unfold q_num
      omega
  · have e : q_rq c a L wo ba di tg hi mi go = (q_mv (q_ms c a L wo ba di tg go).1 a (if q_wh L a = 0 then 1 else 2), upd wo a ((q_ms c a L wo ba di tg go).2.1 a), (q_ms c a L wo ba di tg go).2.1, (q_ms c a L wo ba di tg go).2.2.1, q_tg c L tg (q_wh L a), hi, mi + nI 1, (q_ms c a L wo ba di tg go).2.2.2) := by
      unfold q_rq
      rw [if_neg hk]
    rw [e]
    obtain ⟨g1, g2, g3⟩ := q_ms_ok (wo := wo) (ba := ba) (go := go) h (fun q => hk (Or.inl q)) (fun q => hk (Or.inr q))
    have ht : (if q_wh L a = 0 then 1 else 2) = 1 ∨ (if q_wh L a = 0 then 1 else 2) = 2 := by
      by_cases q : q_wh L a = 0
      · rw [if_pos q]; exact Or.inl rfl
      · rw [if_neg q]; exact Or.inr rfl
    have h1 := q_od_to g1 ha ht
    refine ⟨⟨h1.1, ⟨h.2.1.1, h.2.1.2.1, q_tg_le h.2.1.2.2⟩, q_fin g1.1 g2 g3⟩, ?_⟩
    show q_wh (q_mv (q_ms c a L wo ba di tg go).1 a (if q_wh L a = 0 then 1 else 2)) a = 1 ∨ q_wh (q_mv (q_ms c a L wo ba di tg go).1 a (if q_wh L a = 0 then 1 else 2)) a = 2
    rw [h1.2]
    exact ht
/-- the reference clears dirty once more: nothing changes -/
theorem q_ms_di {wo ba : Nat → Int32} {c tg a : Nat} {L : Nat → List Nat} {di : Nat → Int32} {go : Int32} (h : q_inv c L di tg) (hk1 : q_wh L a ≠ 1) (hk2 : q_wh L a ≠ 2) : upd (q_ms c a L wo ba di tg go).2.2.1 a (nI 0) = (q_ms c a L wo ba di tg go).2.2.1 := by
  obtain ⟨g1, g2, g3⟩ := q_ms_ok (wo := wo) (ba := ba) (go := go) h hk1 hk2
  exact q_upd_self (g1.2 a (by rw [g2]; exact hk1) (by rw [g2]; exact hk2))
end
section
/-! PURE: the calls' answers and new states, on any ints; ranges of ints -/
theorem q_rng {v : Int32} {a b : Nat} (h1 : (a : Int) ≤ v.toInt) (h2 : v.toInt < (b : Int)) (hb : b ≤ 2 ^ 31) : ∃ j : Nat, a ≤ j ∧ j < b ∧ v = nI j :=
  ⟨v.toInt.toNat, by omega, by omega, Int32.toInt_inj.mp (by rw [nI_toInt (by omega)]; omega)⟩
theorem q_ltI {x y : Int32} : x < y ↔ x.toInt < y.toInt := Int32.lt_iff_toInt_lt
theorem q_leI {x y : Int32} : x ≤ y ↔ x.toInt ≤ y.toInt := Int32.le_iff_toInt_le
abbrev q_ia (v : Int32) : Prop := 0 ≤ v ∧ v < nI 64
theorem q_ia_in {j : Nat} (hj : j < 64) : q_ia (nI j) := ⟨nI_pos' (by omega), nI_lt hj (by decide)⟩
theorem q_ia_out {v : Int32} (h : ∀ j : Nat, j < 64 → v ≠ nI j) : ¬ q_ia v := fun q => by
  have h1 := q_leI.mp q.1
  have h2 := q_ltI.mp q.2
  rw [nI_toInt (by decide)] at h2
  obtain ⟨j, -, hj, e⟩ := q_rng (v := v) (a := 0) (b := 64) h1 h2 (by decide)
  exact h j hj e
theorem q_14 {v : Int32} (h1 : ¬ v < nI 1) (h2 : v ≤ nI 4) : ∃ j : Nat, 1 ≤ j ∧ j ≤ 4 ∧ v = nI j := by
  have h3 := q_leI.mp h2
  rw [nI_toInt (by decide)] at h3
  have h4 : ¬ v.toInt < (nI 1).toInt := fun q => h1 (q_ltI.mpr q)
  rw [nI_toInt (by decide)] at h4
  obtain ⟨j, ha, hj, e⟩ := q_rng (v := v) (a := 1) (b := 5) (by omega) (by omega) (by decide)
  exact ⟨j, ha, by omega, e⟩
theorem q_lt_ix {v : Int32} {n : Nat} (h1 : ¬ v < 0) (h2 : v < nI n) (hn : n < 2 ^ 31) : ∃ j : Nat, j < n ∧ v = nI j := by
  have h3 := q_ltI.mp h2
  rw [nI_toInt hn] at h3
  have h4 : ¬ v.toInt < (0 : Int32).toInt := fun q => h1 (q_ltI.mpr q)
  have h5 : (0 : Int32).toInt = 0 := rfl
  rw [h5] at h4
  obtain ⟨j, -, hj, e⟩ := q_rng (v := v) (a := 0) (b := n) (by omega) h3 (by omega)
  exact ⟨j, hj, e⟩
theorem q_gt_le {v w : Int32} (h : ¬ w < v) : v ≤ w := by
  have h1 : ¬ w.toInt < v.toInt := fun q => h (q_ltI.mpr q)
  exact q_leI.mpr (by omega)
theorem q_le_gt {v w : Int32} (h : ¬ v ≤ w) : w < v := by
  have h1 : ¬ v.toInt ≤ w.toInt := fun q => h (q_leI.mpr q)
  exact q_ltI.mpr (by omega)
def q_rd (cp : Nat) (v : Int32) (L : Nat → List Nat) (wo ba di : Nat → Int32) (tg : Nat) (hi mi go : Int32) : Int32 × q_St :=
  if q_ia v then ((q_rq cp v.toNatClampNeg L wo ba di tg hi mi go).2.1 v.toNatClampNeg, q_rq cp v.toNatClampNeg L wo ba di tg hi mi go) else (nI 0, (L, wo, ba, di, tg, hi, mi, go))
theorem q_rd_in {cp j : Nat} {L : Nat → List Nat} {wo ba di : Nat → Int32} {tg : Nat} {hi mi go : Int32} (hj : j < 64) : q_rd cp (nI j) L wo ba di tg hi mi go = ((q_rq cp j L wo ba di tg hi mi go).2.1 j, q_rq cp j L wo ba di tg hi mi go) := by
  unfold q_rd
  rw [if_pos (q_ia_in hj), nI_clamp (by omega)]
theorem q_rd_out {cp : Nat} {v : Int32} {L : Nat → List Nat} {wo ba di : Nat → Int32} {tg : Nat} {hi mi go : Int32} (h : ∀ j : Nat, j < 64 → v ≠ nI j) : q_rd cp v L wo ba di tg hi mi go = (nI 0, (L, wo, ba, di, tg, hi, mi, go)) := by
  unfold q_rd
  rw [if_neg (q_ia_out h)]
/-- a word comes to address j, which is then dirty -/
def q_ws (j : Nat) (x : Int32) (s : q_St) : q_St := (s.1, upd s.2.1 j x, s.2.2.1, upd s.2.2.2.1 j (nI 1), s.2.2.2.2)
def q_wr (cp : Nat) (v x : Int32) (L : Nat → List Nat) (wo ba di : Nat → Int32) (tg : Nat) (hi mi go : Int32) : Int32 × q_St :=
  if q_ia v then (nI 1, q_ws v.toNatClampNeg x (q_rq cp v.toNatClampNeg L wo ba di tg hi mi go)) else (nI 0, (L, wo, ba, di, tg, hi, mi, go))
theorem q_wr_in {cp j : Nat} {x : Int32} {L : Nat → List Nat} {wo ba di : Nat → Int32} {tg : Nat} {hi mi go : Int32} (hj : j < 64) : q_wr cp (nI j) x L wo ba di tg hi mi go = (nI 1, q_ws j x (q_rq cp j L wo ba di tg hi mi go)) := by
  unfold q_wr
  rw [if_pos (q_ia_in hj), nI_clamp (by omega)]
theorem q_wr_out {cp : Nat} {v x : Int32} {L : Nat → List Nat} {wo ba di : Nat → Int32} {tg : Nat} {hi mi go : Int32} (h : ∀ j : Nat, j < 64 → v ≠ nI j) : q_wr cp v x L wo ba di tg hi mi go = (nI 0, (L, wo, ba, di, tg, hi, mi, go)) := by
  unfold q_wr
  rw [if_neg (q_ia_out h)]
/-- a look at address v of f -/
def q_so (f : Nat → Int32) (v : Int32) : Int32 := if q_ia v then f v.toNatClampNeg else nI 0
theorem q_so_in {f : Nat → Int32} {j : Nat} (hj : j < 64) : q_so f (nI j) = f j := by
  unfold q_so
  rw [if_pos (q_ia_in hj), nI_clamp (by omega)]
theorem q_so_out {f : Nat → Int32} {v : Int32} (h : ∀ j : Nat, j < 64 → v ≠ nI j) : q_so f v = nI 0 := by
  unfold q_so
  rw [if_neg (q_ia_out h)]
def q_b01 (f : Nat → Int32) : Nat → Int32 := fun j => if f j = nI 0 then nI 0 else nI 1
def q_wlf (L : Nat → List Nat) : Nat → Int32 := fun j => nI (q_wh L j)
theorem q_fd_so {L : Nat → List Nat} {v : Int32} (h : q_ok L) : q_fd L v 4 = q_so (q_wlf L) v := by
  by_cases hv : ∃ j : Nat, j < 64 ∧ v = nI j
  · obtain ⟨j, hj, e⟩ := hv
    rw [e, q_fd_wh h hj, q_so_in hj]
    rfl
  · have h1 : ∀ j : Nat, j < 64 → v ≠ nI j := fun j hj e => hv ⟨j, hj, e⟩
    rw [q_fd_out h h1, q_so_out h1]
def q_le (L : Nat → List Nat) (v : Int32) : Int32 := if v < nI 1 then (-1) else if v ≤ nI 4 then nI (L v.toNatClampNeg).length else (-1)
theorem q_le_lo {L : Nat → List Nat} {v : Int32} (h : v < nI 1) : q_le L v = (-1) := by unfold q_le; rw [if_pos h]
theorem q_le_hi {L : Nat → List Nat} {v : Int32} (h : ¬ v ≤ nI 4) : q_le L v = (-1) := by
  unfold q_le
  by_cases h1 : v < nI 1
  · rw [if_pos h1]
  · rw [if_neg h1, if_neg h]
theorem q_le_in {L : Nat → List Nat} {j : Nat} (h1 : 1 ≤ j) (h4 : j ≤ 4) : q_le L (nI j) = nI (L j).length := by
  unfold q_le
  rw [if_neg (nI_nlt h1 (by omega)), if_pos (nI_le h4 (by decide)), nI_clamp (by omega)]
def q_at (L : Nat → List Nat) (v x : Int32) : Int32 := if v < nI 1 then (-1) else if nI 4 < v then (-1) else if x < 0 then (-1) else if x < nI (L v.toNatClampNeg).length then nI ((L v.toNatClampNeg).getD x.toNatClampNeg 0) else (-1)
theorem q_at_1 {L : Nat → List Nat} {v x : Int32} (h : v < nI 1) : q_at L v x = (-1) := by unfold q_at; rw [if_pos h]
theorem q_at_4 {L : Nat → List Nat} {v x : Int32} (h : nI 4 < v) : q_at L v x = (-1) := by
  unfold q_at
  by_cases h1 : v < nI 1
  · rw [if_pos h1]
  · rw [if_neg h1, if_pos h]
theorem q_at_0 {L : Nat → List Nat} {v x : Int32} (h : x < 0) : q_at L v x = (-1) := by
  unfold q_at
  by_cases h1 : v < nI 1
  · rw [if_pos h1]
  · rw [if_neg h1]
    by_cases h4 : nI 4 < v
    · rw [if_pos h4]
    · rw [if_neg h4, if_pos h]
theorem q_at_n {L : Nat → List Nat} {j : Nat} {x : Int32} (h1 : 1 ≤ j) (h4 : j ≤ 4) (h : ¬ x < nI (L j).length) : q_at L (nI j) x = (-1) := by
  unfold q_at
  rw [if_neg (nI_nlt h1 (by omega)), if_neg (nI_nlt h4 (by decide)), nI_clamp (by omega)]
  by_cases h0 : x < 0
  · rw [if_pos h0]
  · rw [if_neg h0, if_neg h]
theorem q_at_in {L : Nat → List Nat} {j i b : Nat} (h1 : 1 ≤ j) (h4 : j ≤ 4) (hl : (L j).length < 2 ^ 31) (h : (L j)[i]? = some b) : q_at L (nI j) (nI i) = nI b := by
  have hi : i < (L j).length := (List.getElem?_eq_some_iff.mp h).1
  unfold q_at
  rw [if_neg (nI_nlt h1 (by omega)), if_neg (nI_nlt h4 (by decide)), nI_clamp (by omega), if_neg (nI_pos (by omega)), if_pos (nI_lt hi hl), nI_clamp (by omega), List.getD_eq_getElem?_getD, h]
  rfl
theorem q_seg_get {nx pv : Nat → Int32} {y : Nat} : ∀ (l : List Nat) (x i b d : Nat), q_seg nx pv x l y → l[i]? = some b → l[i + 1]? = some d → nx b = nI d
  | [], _, _, _, _, _, h, _ => by simp at h
  | a :: l, x, 0, b, d, hs, hb, hd => by
    have e : a = b := Option.some.inj hb
    subst e
    cases l with
    | nil => simp at hd
    | cons z l =>
      have e : z = d := Option.some.inj hd
      subst e
      exact hs.2.2.1
  | a :: l, x, i + 1, b, d, hs, hb, hd => q_seg_get l a i b d hs.2.2 hb hd
theorem x_first {L : Nat → List Nat} {nx pv lo le : Nat → Int32} {k b : Nat} (hR : x_rep L nx pv lo le) (hk1 : 1 ≤ k) (hk4 : k ≤ 4) (h : (L k)[0]? = some b) : nx (64 + k) = nI b := by
  have hs := hR.2.2 k hk1 hk4
  generalize L k = l at h hs
  cases l with
  | nil => simp at h
  | cons z l =>
    have e : z = b := Option.some.inj h
    subst e
    exact hs.1
theorem x_next {L : Nat → List Nat} {nx pv lo le : Nat → Int32} {k i b d : Nat} (hR : x_rep L nx pv lo le) (hk1 : 1 ≤ k) (hk4 : k ≤ 4) (hb : (L k)[i]? = some b) (hd : (L k)[i + 1]? = some d) : nx b = nI d :=
  q_seg_get (L k) (64 + k) i b d (hR.2.2 k hk1 hk4) hb hd
/-! the start -/
def q_hd (n : Nat) (f : Nat → Int32) : Nat → Int32 := fun j => if 64 ≤ j ∧ j < 64 + n then nI j else f j
theorem q_hd_0 (f : Nat → Int32) : q_hd 0 f = f := by
  funext j
  unfold q_hd
  rw [if_neg (by omega)]
theorem q_hd_s (f : Nat → Int32) (n : Nat) : upd (q_hd n f) (64 + n) (nI (64 + n)) = q_hd (n + 1) f := by
  funext j
  by_cases hj : j = 64 + n
  · rw [hj, pk_us]
    unfold q_hd
    rw [if_pos (by omega)]
  · rw [pk_un hj]
    unfold q_hd
    by_cases hc : 64 ≤ j ∧ j < 64 + n
    · rw [if_pos hc, if_pos (by omega)]
    · rw [if_neg hc, if_neg (by omega)]
def q_L0 : Nat → List Nat := fun _ => []
theorem q_wh_L0 (a : Nat) : q_wh q_L0 a = 0 := q_wh_0 (fun k h => by cases h)
theorem x_rep_0 (nx pv lo le : Nat → Int32) : x_rep q_L0 (q_hd 5 nx) (q_hd 5 pv) (q_z 64 lo) (q_z 5 le) := by
  refine ⟨fun a ha => ?_, fun k h1 h4 => ?_, fun k h1 h4 => ⟨?_, ?_⟩⟩
  · rw [q_wh_L0, q_z_in _ ha]
  · rw [q_z_in _ (by omega)]; rfl
  · unfold q_hd; rw [if_pos (by omega)]
  · unfold q_hd; rw [if_pos (by omega)]
theorem m_rep_0 (li ma : Nat → Int32) : m_rep q_L0 li (q_z 5 ma) := by
  refine ⟨fun k h1 h4 => ?_, fun k i b h1 h4 h => ?_⟩
  · rw [q_z_in _ (by omega)]; rfl
  · have h : ([] : List Nat)[i]? = some b := h
    simp at h
theorem m_rep_00 (li : Nat → Int32) : m_rep q_L0 li (fun _ => nI 0) := by
  rw [← q_z_z 5]
  exact m_rep_0 li _
theorem q_inv_0 {cp : Nat} {di : Nat → Int32} (h1 : 1 ≤ cp) (h2 : cp ≤ 24) (hd : ∀ a, di a = nI 0) : q_inv cp q_L0 di 0 := by
  refine ⟨⟨⟨fun k => List.nodup_nil, fun k a h => absurd h List.not_mem_nil, fun j k a h => absurd h List.not_mem_nil⟩, fun a _ _ => hd a⟩, ⟨h1, h2, Nat.zero_le _⟩, ?_⟩
  unfold q_num
  exact ⟨Nat.zero_le _, Nat.zero_le _, Nat.zero_le _, Or.inr ⟨rfl, rfl⟩⟩
end
section
/-- isAddress(x) -/
abbrev wsX1_isAddress : List Cond := ws_ yX1_isAddress cX1_isAddress 1 (some .boolean)
set_option maxHeartbeats 4000000 in
set_option maxRecDepth 100000 in
theorem metX1_isAddress (l : Launch) (x : Int32) : Met l yX1_isAddress wsX1_isAddress ({ frames := 0, cells := 0, slots := 0, locals := 0 }) (va_Pc [.int x] (fun _ => True)) (va_Qi (fun (r : Int32) (_ : Unit) => (r = nI 1 ∧ ∃ j : Nat, j < 64 ∧ x = nI j) ∨ (r = nI 0 ∧ ∀ j : Nat, j < 64 → x ≠ nI j)) (fun (_ : Unit) _ => True) (fun _ => False)) 0 0 (fun _ => False) := by
  refine Met.ofW (cc := cX1_isAddress) (maxL := 1) (ret := (some .boolean)) (by decide) rfl ?_
  intro p e s m args below meth c s₁ B hml hv
  obtain ⟨rfl, -⟩ := hv
  have hx := B.exec
  have hb := B.bytes
  have hr := B.returns
  have hlocks := B.notSynchronized
  have hS : va_S (fun _ => False) s.heap s.heap [] := va_S.rf
  have hl := lv_entry ([.int x]) (n := 1) (Nat.le_of_ble_eq_true rfl)
  rw [lg_entry_eq]
  generalize (lg_sl ([.int x]) ++ List.replicate (1 - (lg_sl ([.int x])).length) Slot.unset).toArray = ls at hl ⊢
  have hl : lv_has ls 1 [(0, .int x)] := hl
  refine lv_iload_n hx hb dX1_isAddress_0 rfl (lv_at hl 0 rfl) ?_
  refine lv_if_lt (tgt := 14) hx hb dX1_isAddress_1 (by decide) (fun hc => ?_) (fun hc => ?_)
  · refine lv_iconst (v := (nI 0)) hx hb dX1_isAddress_14 (by decide) ?_
    exact W.zret (v := (nI 0)) hx hb hr rfl (fun t ht hW => ⟨⟨(nI 0), (), rfl, Or.inr ⟨rfl, fun j hj q => absurd (by rw [← q]; exact hc) (nI_pos (n := j) (by omega))⟩, trivial⟩, hS.F ht⟩) hS.2.2 dX1_isAddress_15
  · refine lv_iload_n hx hb dX1_isAddress_4 rfl (lv_at hl 0 rfl) ?_
    refine lv_bipush (v := (nI 64)) hx hb dX1_isAddress_5 (by decide) ?_
    refine lv_icmp_ge (tgt := 14) hx hb dX1_isAddress_7 (by decide) (fun hc2 => ?_) (fun hc2 => ?_)
    · refine lv_iconst (v := (nI 0)) hx hb dX1_isAddress_14 (by decide) ?_
      exact W.zret (v := (nI 0)) hx hb hr rfl (fun t ht hW => ⟨⟨(nI 0), (), rfl, Or.inr ⟨rfl, fun j hj q => absurd (by rw [← q]; exact hc2) (nI_ge (a := j) (b := 64) hj (by decide))⟩, trivial⟩, hS.F ht⟩) hS.2.2 dX1_isAddress_15
    · refine lv_iconst (v := (nI 1)) hx hb dX1_isAddress_10 (by decide) ?_
      refine lv_goto (tgt := 15) hx hb dX1_isAddress_11 (by decide) ?_
      exact W.zret (v := (nI 1)) hx hb hr rfl (fun t ht hW => ⟨⟨(nI 1), (), rfl, Or.inl ⟨rfl, by rcases pk_ix x (n := 64) (by decide) with q | q | q; exact absurd q hc; exact absurd q hc2; exact q⟩, trivial⟩, hS.F ht⟩) hS.2.2 dX1_isAddress_15
/-- atLeastOne -/
abbrev wsX1_atLeastOne : List Cond := ws_ yX1_atLeastOne cX1_atLeastOne 3 (some .int)
set_option maxHeartbeats 4000000 in
set_option maxRecDepth 100000 in
theorem metX1_atLeastOne (l : Launch) (x y : Nat) (hxb : x < 1000) (hy0 : 0 < y) (hyb : y < 1000) : Met l yX1_atLeastOne wsX1_atLeastOne ({ frames := 0, cells := 0, slots := 0, locals := 0 }) (va_Pc [.int (nI x), .int (nI y)] (fun _ => True)) (va_Qi (fun (r : Int32) (_ : Unit) => r = nI (max 1 (x / y))) (fun (_ : Unit) _ => True) (fun _ => False)) 0 0 (fun _ => False) := by
  refine Met.ofW (cc := cX1_atLeastOne) (maxL := 3) (ret := (some .int)) (by decide) rfl ?_
  intro p e s m args below meth c s₁ B hml hv
  obtain ⟨rfl, -⟩ := hv
  have hx := B.exec
  have hb := B.bytes
  have hr := B.returns
  have hlocks := B.notSynchronized
  have hS : va_S (fun _ => False) s.heap s.heap [] := va_S.rf
  have hl := lv_entry ([.int (nI x), .int (nI y)]) (n := 3) (Nat.le_of_ble_eq_true rfl)
  rw [lg_entry_eq]
  generalize (lg_sl ([.int (nI x), .int (nI y)]) ++ List.replicate (3 - (lg_sl ([.int (nI x), .int (nI y)])).length) Slot.unset).toArray = ls at hl ⊢
  have hl : lv_has ls 3 [(0, .int (nI x)), (1, .int (nI y))] := hl
  have hdv : x / y < 1000 := Nat.lt_of_le_of_lt (Nat.div_le_self _ _) hxb
  refine lv_iload_n hx hb dX1_atLeastOne_0 rfl (lv_at hl 0 rfl) ?_
  refine lv_iload_n hx hb dX1_atLeastOne_1 rfl (lv_at hl 1 rfl) ?_
  refine q_idiv hx hb (by omega) (by omega) (by omega) dX1_atLeastOne_2 ?_
  refine lv_istore_n (lv' := [(2, .int (nI (x / y))), (0, .int (nI x)), (1, .int (nI y))]) hx hb dX1_atLeastOne_3 rfl hl (by decide) rfl (fun ls hl => ?_)
  refine lv_iload_n hx hb dX1_atLeastOne_4 rfl (lv_at hl 0 rfl) ?_
  refine lv_iconst (v := (nI 1)) hx hb dX1_atLeastOne_5 (by decide) ?_
  refine q_icmp_ge (tgt := 13) hx hb (by omega) (by omega) dX1_atLeastOne_6 (by decide) (fun hc => ?_) (fun hc => ?_)
  · refine lv_iload_n hx hb dX1_atLeastOne_13 rfl (lv_at hl 0 rfl) ?_
    exact W.iret (v := (nI (x / y))) hx hb hr (fun t ht hW => ⟨⟨(nI (x / y)), (), rfl, by rw [Nat.max_eq_right hc], trivial⟩, hS.F ht⟩) hS.2.2 dX1_atLeastOne_14
  · refine lv_iconst (v := (nI 1)) hx hb dX1_atLeastOne_9 (by decide) ?_
    refine lv_goto (tgt := 14) hx hb dX1_atLeastOne_10 (by decide) ?_
    exact W.iret (v := (nI 1)) hx hb hr (fun t ht hW => ⟨⟨(nI 1), (), rfl, by rw [Nat.max_eq_left (Nat.le_of_lt hc)], trivial⟩, hS.F ht⟩) hS.2.2 dX1_atLeastOne_14
/-- unlink(a): a leaves its list -/
abbrev wsX1_unlink : List Cond := ws_ yX1_unlink cX1_unlink 2 none
set_option maxHeartbeats 4000000 in
set_option maxRecDepth 100000 in
theorem metX1_unlink (l : Launch) (dC : Nat → ClassId) (dI : Nat → Nat → Nat) (ci cz : ClassId) (ad : Nat → Nat) (sz : Nat) (nx pv lo le wo di ba : Nat → Int32) (cp tg hi mi go : Int32) {L : Nat → List Nat} {a : Nat} (hok : q_ok L) (hR : x_rep L nx pv lo le) (ha : a < 64) : Met l yX1_unlink wsX1_unlink ({ frames := 0, cells := 0, slots := 0, locals := 0 }) (va_Pc [.ref (ad 0), .int (nI a)] (q_Pre dC dI ci cz sz (xw ad ci cz nx pv lo le wo di ba cp tg hi mi go))) (va_Qv (fun u : x_U => x_rep (q_rm L a) u.1 u.2.1 u.2.2.1 u.2.2.2) (xB dC dI ci cz (va_A (xw ad ci cz nx pv lo le wo di ba cp tg hi mi go) sz) ad wo di ba cp tg hi mi go) (va_A (xw ad ci cz nx pv lo le wo di ba cp tg hi mi go) sz)) 0 0 (va_A (xw ad ci cz nx pv lo le wo di ba cp tg hi mi go) sz) := by
  refine Met.ofW (cc := cX1_unlink) (maxL := 2) (ret := none) (by decide) rfl ?_
  intro p e s m args below meth c s₁ B hml hv
  obtain ⟨rfl, hsz, hP, hK, hD0⟩ := hv
  have hx := B.exec
  have hb := B.bytes
  have hr := B.returns
  have hts := atoms_spec (ws := wsX1_unlink) B.pre
  have hts : ∀ w ∈ lw_all, w.before _ s = true := fun w h => hts w (List.mem_cons_of_mem _ h)
  have hown : s.vm.findClass RX1 = some m.cls := findClass_of_methodNamed B.named
  have hlocks := B.notSynchronized
  subst hsz
  have hD := hD0.self (sz := s.heap.size)
  generalize hAe : va_A (xw ad ci cz nx pv lo le wo di ba cp tg hi mi go) s.heap.size = A at hD ⊢
  have hA : ∀ q : Nat, s.heap.size ≤ q → A q := fun q h => by rw [← hAe]; exact Or.inr h
  have hS : va_S A s.heap s.heap [] := va_S.rf
  have hP : va_P (dC, dI) vwCl (xw ad ci cz nx pv lo le wo di ba cp tg hi mi go) s.heap := hP
  have hl := lv_entry ([.ref (ad 0), .int (nI a)]) (n := 2) (Nat.le_of_ble_eq_true rfl)
  rw [lg_entry_eq]
  generalize (lg_sl ([.ref (ad 0), .int (nI a)]) ++ List.replicate (2 - (lg_sl ([.ref (ad 0), .int (nI a)])).length) Slot.unset).toArray = ls at hl ⊢
  have hl : lv_has ls 2 [(0, .ref (ad 0)), (1, .int (nI a))] := hl
  have hw4 := q_wh_le L a
  refine lv_aload_n hx hb dX1_unlink_0 rfl (lv_at hl 0 rfl) ?_
  refine va_get (D := (dC, dI)) (ci := 0) (v := .ref (ad 3)) (C := RX1) (T := TX1) (N := 12) hx hb hts in_X1 hown hK hP 0 rfl rfl 2 (by decide) (hts _ q32) (fun _ h9 => h9) rfl dX1_unlink_1 ?_
  refine lv_iload_n hx hb dX1_unlink_4 rfl (lv_at hl 1 rfl) ?_
  refine q_iald (v := (nI (q_wh L a))) hx hb hK hP 3 0 rfl rfl (by omega) (by decide) (hR.1 a ha) dX1_unlink_5 ?_
  refine q_if_ne (tgt := 10) hx hb (by omega) dX1_unlink_6 (by decide) (fun hk => ?_) (fun hk => ?_)
  · obtain ⟨p9, s9, n9, hp, hs, hn, hpa, epv, enx, ele, hR9⟩ := x_unl hok hR ha hk
    refine lv_aload_n hx hb dX1_unlink_10 rfl (lv_at hl 0 rfl) ?_
    refine va_get (D := (dC, dI)) (ci := 0) (v := .ref (ad 1)) (C := RX1) (T := TX1) (N := 12) hx hb hts in_X1 hown hK hP 0 rfl rfl 0 (by decide) (hts _ q30) (fun _ h9 => h9) rfl dX1_unlink_11 ?_
    refine lv_aload_n hx hb dX1_unlink_14 rfl (lv_at hl 0 rfl) ?_
    refine va_get (D := (dC, dI)) (ci := 0) (v := .ref (ad 2)) (C := RX1) (T := TX1) (N := 12) hx hb hts in_X1 hown hK hP 0 rfl rfl 1 (by decide) (hts _ q31) (fun _ h9 => h9) rfl dX1_unlink_15 ?_
    refine lv_iload_n hx hb dX1_unlink_18 rfl (lv_at hl 1 rfl) ?_
    refine q_iald (v := (nI p9)) hx hb hK hP 2 0 rfl rfl (by omega) (by decide) epv dX1_unlink_19 ?_
    refine lv_aload_n hx hb dX1_unlink_20 rfl (lv_at hl 0 rfl) ?_
    refine va_get (D := (dC, dI)) (ci := 0) (v := .ref (ad 1)) (C := RX1) (T := TX1) (N := 12) hx hb hts in_X1 hown hK hP 0 rfl rfl 0 (by decide) (hts _ q30) (fun _ h9 => h9) rfl dX1_unlink_21 ?_
    refine lv_iload_n hx hb dX1_unlink_24 rfl (lv_at hl 1 rfl) ?_
    refine q_iald (v := (nI s9)) hx hb hK hP 1 0 rfl rfl (by omega) (by decide) enx dX1_unlink_25 ?_
    refine q_iast (g := (upd nx p9 (nI s9))) hx hb hK hP hD hS 1 0 rfl rfl (by omega) (by decide) rfl dX1_unlink_26 (fun H locs hP hD hS => ?_)
    have hP : va_P (dC, dI) vwCl (xw ad ci cz (upd nx p9 (nI s9)) pv lo le wo di ba cp tg hi mi go) H := hP
    have hD : va_D A (xw ad ci cz (upd nx p9 (nI s9)) pv lo le wo di ba cp tg hi mi go) := hD
    refine lv_aload_n hx hb dX1_unlink_27 rfl (lv_at hl 0 rfl) ?_
    refine va_get (D := (dC, dI)) (ci := 0) (v := .ref (ad 2)) (C := RX1) (T := TX1) (N := 12) hx hb hts in_X1 hown hK hP 0 rfl rfl 1 (by decide) (hts _ q31) (fun _ h9 => h9) rfl dX1_unlink_28 ?_
    refine lv_aload_n hx hb dX1_unlink_31 rfl (lv_at hl 0 rfl) ?_
    refine va_get (D := (dC, dI)) (ci := 0) (v := .ref (ad 1)) (C := RX1) (T := TX1) (N := 12) hx hb hts in_X1 hown hK hP 0 rfl rfl 0 (by decide) (hts _ q30) (fun _ h9 => h9) rfl dX1_unlink_32 ?_
    refine lv_iload_n hx hb dX1_unlink_35 rfl (lv_at hl 1 rfl) ?_
    refine q_iald (v := (nI s9)) hx hb hK hP 1 0 rfl rfl (by omega) (by decide) ((pk_un hpa).trans enx) dX1_unlink_36 ?_
    refine lv_aload_n hx hb dX1_unlink_37 rfl (lv_at hl 0 rfl) ?_
    refine va_get (D := (dC, dI)) (ci := 0) (v := .ref (ad 2)) (C := RX1) (T := TX1) (N := 12) hx hb hts in_X1 hown hK hP 0 rfl rfl 1 (by decide) (hts _ q31) (fun _ h9 => h9) rfl dX1_unlink_38 ?_
    refine lv_iload_n hx hb dX1_unlink_41 rfl (lv_at hl 1 rfl) ?_
    refine q_iald (v := (nI p9)) hx hb hK hP 2 0 rfl rfl (by omega) (by decide) epv dX1_unlink_42 ?_
    refine q_iast (g := (upd pv s9 (nI p9))) hx hb hK hP hD hS 2 0 rfl rfl (by omega) (by decide) rfl dX1_unlink_43 (fun H locs hP hD hS => ?_)
    have hP : va_P (dC, dI) vwCl (xw ad ci cz (upd nx p9 (nI s9)) (upd pv s9 (nI p9)) lo le wo di ba cp tg hi mi go) H := hP
    have hD : va_D A (xw ad ci cz (upd nx p9 (nI s9)) (upd pv s9 (nI p9)) lo le wo di ba cp tg hi mi go) := hD
    refine lv_aload_n hx hb dX1_unlink_44 rfl (lv_at hl 0 rfl) ?_
    refine va_get (D := (dC, dI)) (ci := 0) (v := .ref (ad 4)) (C := RX1) (T := TX1) (N := 12) hx hb hts in_X1 hown hK hP 0 rfl rfl 3 (by decide) (hts _ q33) (fun _ h9 => h9) rfl dX1_unlink_45 ?_
    refine lv_aload_n hx hb dX1_unlink_48 rfl (lv_at hl 0 rfl) ?_
    refine va_get (D := (dC, dI)) (ci := 0) (v := .ref (ad 3)) (C := RX1) (T := TX1) (N := 12) hx hb hts in_X1 hown hK hP 0 rfl rfl 2 (by decide) (hts _ q32) (fun _ h9 => h9) rfl dX1_unlink_49 ?_
    refine lv_iload_n hx hb dX1_unlink_52 rfl (lv_at hl 1 rfl) ?_
    refine q_iald (v := (nI (q_wh L a))) hx hb hK hP 3 0 rfl rfl (by omega) (by decide) (hR.1 a ha) dX1_unlink_53 ?_
    refine lv_dup2_11 hx hb dX1_unlink_54 rfl rfl ?_
    refine q_iald (v := (nI (n9 + 1))) hx hb hK hP 4 0 rfl rfl (by omega) (by decide) ele dX1_unlink_55 ?_
    refine lv_iconst (v := (nI 1)) hx hb dX1_unlink_56 (by decide) ?_
    refine q_isub hx hb (by omega) dX1_unlink_57 ?_
    refine q_top (y := (nI n9)) (by rw [Nat.add_sub_cancel]) ?_
    refine q_iast (g := (upd le (q_wh L a) (nI n9))) hx hb hK hP hD hS 4 0 rfl rfl (by omega) (by decide) rfl dX1_unlink_58 (fun H locs hP hD hS => ?_)
    have hP : va_P (dC, dI) vwCl (xw ad ci cz (upd nx p9 (nI s9)) (upd pv s9 (nI p9)) lo (upd le (q_wh L a) (nI n9)) wo di ba cp tg hi mi go) H := hP
    have hD : va_D A (xw ad ci cz (upd nx p9 (nI s9)) (upd pv s9 (nI p9)) lo (upd le (q_wh L a) (nI n9)) wo di ba cp tg hi mi go) := hD
    refine lv_aload_n hx hb dX1_unlink_59 rfl (lv_at hl 0 rfl) ?_
    refine va_get (D := (dC, dI)) (ci := 0) (v := .ref (ad 3)) (C := RX1) (T := TX1) (N := 12) hx hb hts in_X1 hown hK hP 0 rfl rfl 2 (by decide) (hts _ q32) (fun _ h9 => h9) rfl dX1_unlink_60 ?_
    refine lv_iload_n hx hb dX1_unlink_63 rfl (lv_at hl 1 rfl) ?_
    refine lv_iconst (v := (nI 0)) hx hb dX1_unlink_64 (by decide) ?_
    refine q_iast (g := (upd lo a (nI 0))) hx hb hK hP hD hS 3 0 rfl rfl (by omega) (by decide) rfl dX1_unlink_65 (fun H locs hP hD hS => ?_)
    have hP : va_P (dC, dI) vwCl (xw ad ci cz (upd nx p9 (nI s9)) (upd pv s9 (nI p9)) (upd lo a (nI 0)) (upd le (q_wh L a) (nI n9)) wo di ba cp tg hi mi go) H := hP
    have hD : va_D A (xw ad ci cz (upd nx p9 (nI s9)) (upd pv s9 (nI p9)) (upd lo a (nI 0)) (upd le (q_wh L a) (nI n9)) wo di ba cp tg hi mi go) := hD
    exact W.vret hx hb hr (fun t ht hW => ⟨⟨((upd nx p9 (nI s9)), (upd pv s9 (nI p9)), (upd lo a (nI 0)), (upd le (q_wh L a) (nI n9))), rfl, hR9, by rw [ht]; exact hP, va_K.moved hW.alike hK, hD⟩, hS.F ht⟩) hS.2.2 dX1_unlink_66
  · exact W.vret hx hb hr (fun t ht hW => ⟨⟨(nx, pv, lo, le), rfl, (by rw [q_rm_same hok hk]; exact hR), by rw [ht]; exact hP, va_K.moved hW.alike hK, hD⟩, hS.F ht⟩) hS.2.2 dX1_unlink_9
/-- move(a, k) -/
abbrev wsX1_move : List Cond := ws_ yX1_move cX1_move 4 none
set_option maxHeartbeats 4000000 in
set_option maxRecDepth 100000 in
theorem metX1_move (l : Launch) (dC : Nat → ClassId) (dI : Nat → Nat → Nat) (ci cz : ClassId) (ad : Nat → Nat) (sz : Nat) (nx pv lo le wo di ba : Nat → Int32) (cp tg hi mi go : Int32) {L : Nat → List Nat} {a k : Nat} (hok : q_ok L) (hR : x_rep L nx pv lo le) (ha : a < 64) (hk4 : k ≤ 4) : Met l yX1_move wsX1_move ({ frames := 1, cells := 0, slots := 0, locals := 21 }) (va_Pc [.ref (ad 0), .int (nI a), .int (nI k)] (q_Pre dC dI ci cz sz (xw ad ci cz nx pv lo le wo di ba cp tg hi mi go))) (va_Qv (fun u : x_U => x_rep (q_mv L a k) u.1 u.2.1 u.2.2.1 u.2.2.2) (xB dC dI ci cz (va_A (xw ad ci cz nx pv lo le wo di ba cp tg hi mi go) sz) ad wo di ba cp tg hi mi go) (va_A (xw ad ci cz nx pv lo le wo di ba cp tg hi mi go) sz)) 0 0 (va_A (xw ad ci cz nx pv lo le wo di ba cp tg hi mi go) sz) := by
  refine Met.ofW (cc := cX1_move) (maxL := 4) (ret := none) (by decide) rfl ?_
  intro p e s m args below meth c s₁ B hml hv
  obtain ⟨rfl, hsz, hP, hK, hD0⟩ := hv
  have hx := B.exec
  have hb := B.bytes
  have hr := B.returns
  have hts := atoms_spec (ws := wsX1_move) B.pre
  have hts : ∀ w ∈ lw_all, w.before _ s = true := fun w h => hts w (List.mem_cons_of_mem _ h)
  have hown : s.vm.findClass RX1 = some m.cls := findClass_of_methodNamed B.named
  have hlocks := B.notSynchronized
  subst hsz
  have hD := hD0.self (sz := s.heap.size)
  generalize hAe : va_A (xw ad ci cz nx pv lo le wo di ba cp tg hi mi go) s.heap.size = A at hD ⊢
  have hA : ∀ q : Nat, s.heap.size ≤ q → A q := fun q h => by rw [← hAe]; exact Or.inr h
  have hS : va_S A s.heap s.heap [] := va_S.rf
  have hP : va_P (dC, dI) vwCl (xw ad ci cz nx pv lo le wo di ba cp tg hi mi go) s.heap := hP
  have hl := lv_entry ([.ref (ad 0), .int (nI a), .int (nI k)]) (n := 4) (Nat.le_of_ble_eq_true rfl)
  rw [lg_entry_eq]
  generalize (lg_sl ([.ref (ad 0), .int (nI a), .int (nI k)]) ++ List.replicate (4 - (lg_sl ([.ref (ad 0), .int (nI a), .int (nI k)])).length) Slot.unset).toArray = ls at hl ⊢
  have hl : lv_has ls 4 [(0, .ref (ad 0)), (1, .int (nI a)), (2, .int (nI k))] := hl
  refine lv_aload_n hx hb dX1_move_0 rfl (lv_at hl 0 rfl) ?_
  refine lv_iload_n hx hb dX1_move_1 rfl (lv_at hl 1 rfl) ?_
  have hFc := va_free (wc := (xw ad ci cz nx pv lo le wo di ba cp tg hi mi go)) hD hS hA [0, 1, 2, 3, 4, 5, 6, 7] rfl
  refine va_callv (va_runV (As := [.int (nI a)]) (rest := []) ⟨hx, hb, hml, hown, hts⟩ (metX1_unlink l dC dI ci cz ad s.heap.size nx pv lo le wo di ba cp tg hi mi go hok hR ha) (cwV 1 hts (lw_V q85 q87 qs2 q16 q88) rfl rfl rfl (by decide +kernel) ⟨Nat.le_of_ble_eq_true rfl, Nat.le_of_ble_eq_true rfl⟩) ⟨q_blind, va_recv hK hP (ci := 0) (q0 := 0) rfl rfl, fun U hU hW => q_ent hP hK hD hU hW⟩ rfl rfl hl.1 rfl (lv_room (Nat.le_of_ble_eq_true rfl)) dX1_move_2 ⟨Nat.le_of_ble_eq_true rfl, Nat.le_of_ble_eq_true rfl⟩) hS (fun q _ h => hFc q h) hFc (fun  u t H1 locs ht hvm hw hB hzq hkq hS => ?_)
  obtain ⟨nx1, pv1, lo1, le1⟩ := u
  obtain ⟨hP1, hK1, hD1⟩ := hB
  rw [ht] at hP1
  have hP : va_P (dC, dI) vwCl (xw ad ci cz nx1 pv1 lo1 le1 wo di ba cp tg hi mi go) H1 := hP1
  have hD : va_D A (xw ad ci cz nx1 pv1 lo1 le1 wo di ba cp tg hi mi go) := hD1.weaken (fun k q _ h => hFc q.1 h)
  have hw : x_rep (q_rm L a) nx1 pv1 lo1 le1 := hw
  generalize H1 = H at hP hS ⊢
  refine lv_iload_n hx hb dX1_move_5 rfl (lv_at hl 2 rfl) ?_
  refine q_if_ne (tgt := 10) hx hb (by omega) dX1_move_6 (by decide) (fun hk => ?_) (fun hk => ?_)
  · obtain ⟨f9, n9, hf, hn, ef, el, hR9⟩ := x_insert (q_ok_rm hok) hw ha (q_rm_no hok) (show 1 ≤ k by omega) hk4
    refine lv_bipush (v := (nI 64)) hx hb dX1_move_10 (by decide) ?_
    refine lv_iload_n hx hb dX1_move_12 rfl (lv_at hl 2 rfl) ?_
    refine q_iadd hx hb dX1_move_13 ?_
    refine lv_istore_n (lv' := [(3, .int (nI (64 + k))), (0, .ref (ad 0)), (1, .int (nI a)), (2, .int (nI k))]) hx hb dX1_move_14 rfl hl (by decide) rfl (fun ls hl => ?_)
    refine lv_aload_n hx hb dX1_move_15 rfl (lv_at hl 1 rfl) ?_
    refine va_get (D := (dC, dI)) (ci := 0) (v := .ref (ad 1)) (C := RX1) (T := TX1) (N := 12) hx hb hts in_X1 hown hK hP 0 rfl rfl 0 (by decide) (hts _ q30) (fun _ h9 => h9) rfl dX1_move_16 ?_
    refine lv_iload_n hx hb dX1_move_19 rfl (lv_at hl 2 rfl) ?_
    refine lv_aload_n hx hb dX1_move_20 rfl (lv_at hl 1 rfl) ?_
    refine va_get (D := (dC, dI)) (ci := 0) (v := .ref (ad 1)) (C := RX1) (T := TX1) (N := 12) hx hb hts in_X1 hown hK hP 0 rfl rfl 0 (by decide) (hts _ q30) (fun _ h9 => h9) rfl dX1_move_21 ?_
    refine lv_iload_n hx hb dX1_move_24 rfl (lv_at hl 0 rfl) ?_
    refine q_iald (v := (nI f9)) hx hb hK hP 1 0 rfl rfl (by omega) (by decide) ef dX1_move_25 ?_
    refine q_iast (g := (upd nx1 a (nI f9))) hx hb hK hP hD hS 1 0 rfl rfl (by omega) (by decide) rfl dX1_move_26 (fun H locs hP hD hS => ?_)
    have hP : va_P (dC, dI) vwCl (xw ad ci cz (upd nx1 a (nI f9)) pv1 lo1 le1 wo di ba cp tg hi mi go) H := hP
    have hD : va_D A (xw ad ci cz (upd nx1 a (nI f9)) pv1 lo1 le1 wo di ba cp tg hi mi go) := hD
    refine lv_aload_n hx hb dX1_move_27 rfl (lv_at hl 1 rfl) ?_
    refine va_get (D := (dC, dI)) (ci := 0) (v := .ref (ad 2)) (C := RX1) (T := TX1) (N := 12) hx hb hts in_X1 hown hK hP 0 rfl rfl 1 (by decide) (hts _ q31) (fun _ h9 => h9) rfl dX1_move_28 ?_
    refine lv_iload_n hx hb dX1_move_31 rfl (lv_at hl 2 rfl) ?_
    refine lv_iload_n hx hb dX1_move_32 rfl (lv_at hl 0 rfl) ?_
    refine q_iast (g := (upd pv1 a (nI (64 + k)))) hx hb hK hP hD hS 2 0 rfl rfl (by omega) (by decide) rfl dX1_move_33 (fun H locs hP hD hS => ?_)
    have hP : va_P (dC, dI) vwCl (xw ad ci cz (upd nx1 a (nI f9)) (upd pv1 a (nI (64 + k))) lo1 le1 wo di ba cp tg hi mi go) H := hP
    have hD : va_D A (xw ad ci cz (upd nx1 a (nI f9)) (upd pv1 a (nI (64 + k))) lo1 le1 wo di ba cp tg hi mi go) := hD
    refine lv_aload_n hx hb dX1_move_34 rfl (lv_at hl 1 rfl) ?_
    refine va_get (D := (dC, dI)) (ci := 0) (v := .ref (ad 2)) (C := RX1) (T := TX1) (N := 12) hx hb hts in_X1 hown hK hP 0 rfl rfl 1 (by decide) (hts _ q31) (fun _ h9 => h9) rfl dX1_move_35 ?_
    refine lv_aload_n hx hb dX1_move_38 rfl (lv_at hl 1 rfl) ?_
    refine va_get (D := (dC, dI)) (ci := 0) (v := .ref (ad 1)) (C := RX1) (T := TX1) (N := 12) hx hb hts in_X1 hown hK hP 0 rfl rfl 0 (by decide) (hts _ q30) (fun _ h9 => h9) rfl dX1_move_39 ?_
    refine lv_iload_n hx hb dX1_move_42 rfl (lv_at hl 0 rfl) ?_
    refine q_iald (v := (nI f9)) hx hb hK hP 1 0 rfl rfl (by omega) (by decide) ((pk_un (by omega)).trans ef) dX1_move_43 ?_
    refine lv_iload_n hx hb dX1_move_44 rfl (lv_at hl 2 rfl) ?_
    refine q_iast (g := (upd (upd pv1 a (nI (64 + k))) f9 (nI a))) hx hb hK hP hD hS 2 0 rfl rfl (by omega) (by decide) rfl dX1_move_45 (fun H locs hP hD hS => ?_)
    have hP : va_P (dC, dI) vwCl (xw ad ci cz (upd nx1 a (nI f9)) (upd (upd pv1 a (nI (64 + k))) f9 (nI a)) lo1 le1 wo di ba cp tg hi mi go) H := hP
    have hD : va_D A (xw ad ci cz (upd nx1 a (nI f9)) (upd (upd pv1 a (nI (64 + k))) f9 (nI a)) lo1 le1 wo di ba cp tg hi mi go) := hD
    refine lv_aload_n hx hb dX1_move_46 rfl (lv_at hl 1 rfl) ?_
    refine va_get (D := (dC, dI)) (ci := 0) (v := .ref (ad 1)) (C := RX1) (T := TX1) (N := 12) hx hb hts in_X1 hown hK hP 0 rfl rfl 0 (by decide) (hts _ q30) (fun _ h9 => h9) rfl dX1_move_47 ?_
    refine lv_iload_n hx hb dX1_move_50 rfl (lv_at hl 0 rfl) ?_
    refine lv_iload_n hx hb dX1_move_51 rfl (lv_at hl 2 rfl) ?_
    refine q_iast (g := (upd (upd nx1 a (nI f9)) (64 + k) (nI a))) hx hb hK hP hD hS 1 0 rfl rfl (by omega) (by decide) rfl dX1_move_52 (fun H locs hP hD hS => ?_)
    have hP : va_P (dC, dI) vwCl (xw ad ci cz (upd (upd nx1 a (nI f9)) (64 + k) (nI a)) (upd (upd pv1 a (nI (64 + k))) f9 (nI a)) lo1 le1 wo di ba cp tg hi mi go) H := hP
    have hD : va_D A (xw ad ci cz (upd (upd nx1 a (nI f9)) (64 + k) (nI a)) (upd (upd pv1 a (nI (64 + k))) f9 (nI a)) lo1 le1 wo di ba cp tg hi mi go) := hD
    refine lv_aload_n hx hb dX1_move_53 rfl (lv_at hl 1 rfl) ?_
    refine va_get (D := (dC, dI)) (ci := 0) (v := .ref (ad 3)) (C := RX1) (T := TX1) (N := 12) hx hb hts in_X1 hown hK hP 0 rfl rfl 2 (by decide) (hts _ q32) (fun _ h9 => h9) rfl dX1_move_54 ?_
    refine lv_iload_n hx hb dX1_move_57 rfl (lv_at hl 2 rfl) ?_
    refine lv_iload_n hx hb dX1_move_58 rfl (lv_at hl 3 rfl) ?_
    refine q_iast (g := (upd lo1 a (nI k))) hx hb hK hP hD hS 3 0 rfl rfl (by omega) (by decide) rfl dX1_move_59 (fun H locs hP hD hS => ?_)
    have hP : va_P (dC, dI) vwCl (xw ad ci cz (upd (upd nx1 a (nI f9)) (64 + k) (nI a)) (upd (upd pv1 a (nI (64 + k))) f9 (nI a)) (upd lo1 a (nI k)) le1 wo di ba cp tg hi mi go) H := hP
    have hD : va_D A (xw ad ci cz (upd (upd nx1 a (nI f9)) (64 + k) (nI a)) (upd (upd pv1 a (nI (64 + k))) f9 (nI a)) (upd lo1 a (nI k)) le1 wo di ba cp tg hi mi go) := hD
    refine lv_aload_n hx hb dX1_move_60 rfl (lv_at hl 1 rfl) ?_
    refine va_get (D := (dC, dI)) (ci := 0) (v := .ref (ad 4)) (C := RX1) (T := TX1) (N := 12) hx hb hts in_X1 hown hK hP 0 rfl rfl 3 (by decide) (hts _ q33) (fun _ h9 => h9) rfl dX1_move_61 ?_
    refine lv_iload_n hx hb dX1_move_64 rfl (lv_at hl 3 rfl) ?_
    refine lv_dup2_11 hx hb dX1_move_65 rfl rfl ?_
    refine q_iald (v := (nI n9)) hx hb hK hP 4 0 rfl rfl (by omega) (by decide) el dX1_move_66 ?_
    refine lv_iconst (v := (nI 1)) hx hb dX1_move_67 (by decide) ?_
    refine q_iadd hx hb dX1_move_68 ?_
    refine q_iast (g := (upd le1 k (nI (n9 + 1)))) hx hb hK hP hD hS 4 0 rfl rfl (by omega) (by decide) rfl dX1_move_69 (fun H locs hP hD hS => ?_)
    have hP : va_P (dC, dI) vwCl (xw ad ci cz (upd (upd nx1 a (nI f9)) (64 + k) (nI a)) (upd (upd pv1 a (nI (64 + k))) f9 (nI a)) (upd lo1 a (nI k)) (upd le1 k (nI (n9 + 1))) wo di ba cp tg hi mi go) H := hP
    have hD : va_D A (xw ad ci cz (upd (upd nx1 a (nI f9)) (64 + k) (nI a)) (upd (upd pv1 a (nI (64 + k))) f9 (nI a)) (upd lo1 a (nI k)) (upd le1 k (nI (n9 + 1))) wo di ba cp tg hi mi go) := hD
    exact W.vret hx hb hr (fun t ht hW => ⟨⟨((upd (upd nx1 a (nI f9)) (64 + k) (nI a)), (upd (upd pv1 a (nI (64 + k))) f9 (nI a)), (upd lo1 a (nI k)), (upd le1 k (nI (n9 + 1)))), rfl, (by rw [show q_mv L a k = q_ins (q_rm L a) a k from if_neg hk]; exact hR9), by rw [ht]; exact hP, va_K.moved hW.alike hK, hD⟩, hS.F ht⟩) hS.2.2 dX1_move_70
  · exact W.vret hx hb hr (fun t ht hW => ⟨⟨(nx1, pv1, lo1, le1), rfl, (by rw [show q_mv L a k = q_rm L a from if_pos hk]; exact hw), by rw [ht]; exact hP, va_K.moved hW.alike hK, hD⟩, hS.F ht⟩) hS.2.2 dX1_move_9
/-- old(k): the last of list k -/
abbrev wsX1_old : List Cond := ws_ yX1_old cX1_old 2 (some .int)
set_option maxHeartbeats 4000000 in
set_option maxRecDepth 100000 in
theorem metX1_old (l : Launch) (dC : Nat → ClassId) (dI : Nat → Nat → Nat) (ci cz : ClassId) (ad : Nat → Nat) (sz : Nat) (nx pv lo le wo di ba : Nat → Int32) (cp tg hi mi go : Int32) {L : Nat → List Nat} {k : Nat} (hR : x_rep L nx pv lo le) (hk1 : 1 ≤ k) (hk4 : k ≤ 4) (hne : L k ≠ []) : Met l yX1_old wsX1_old ({ frames := 0, cells := 0, slots := 0, locals := 0 }) (va_Pc [.ref (ad 0), .int (nI k)] (q_Pre dC dI ci cz sz (xw ad ci cz nx pv lo le wo di ba cp tg hi mi go))) (va_Qi (fun (r : Int32) (_ : Unit) => r = nI (q_last 0 (L k))) (fun (_ : Unit) t => q_Post dC dI ci cz (va_A (xw ad ci cz nx pv lo le wo di ba cp tg hi mi go) sz) (xw ad ci cz nx pv lo le wo di ba cp tg hi mi go) t) (va_A (xw ad ci cz nx pv lo le wo di ba cp tg hi mi go) sz)) 0 0 (va_A (xw ad ci cz nx pv lo le wo di ba cp tg hi mi go) sz) := by
  refine Met.ofW (cc := cX1_old) (maxL := 2) (ret := (some .int)) (by decide) rfl ?_
  intro p e s m args below meth c s₁ B hml hv
  obtain ⟨rfl, hsz, hP, hK, hD0⟩ := hv
  have hx := B.exec
  have hb := B.bytes
  have hr := B.returns
  have hts := atoms_spec (ws := wsX1_old) B.pre
  have hts : ∀ w ∈ lw_all, w.before _ s = true := fun w h => hts w (List.mem_cons_of_mem _ h)
  have hown : s.vm.findClass RX1 = some m.cls := findClass_of_methodNamed B.named
  have hlocks := B.notSynchronized
  subst hsz
  have hD := hD0.self (sz := s.heap.size)
  generalize hAe : va_A (xw ad ci cz nx pv lo le wo di ba cp tg hi mi go) s.heap.size = A at hD ⊢
  have hA : ∀ q : Nat, s.heap.size ≤ q → A q := fun q h => by rw [← hAe]; exact Or.inr h
  have hS : va_S A s.heap s.heap [] := va_S.rf
  have hP : va_P (dC, dI) vwCl (xw ad ci cz nx pv lo le wo di ba cp tg hi mi go) s.heap := hP
  have hl := lv_entry ([.ref (ad 0), .int (nI k)]) (n := 2) (Nat.le_of_ble_eq_true rfl)
  rw [lg_entry_eq]
  generalize (lg_sl ([.ref (ad 0), .int (nI k)]) ++ List.replicate (2 - (lg_sl ([.ref (ad 0), .int (nI k)])).length) Slot.unset).toArray = ls at hl ⊢
  have hl : lv_has ls 2 [(0, .ref (ad 0)), (1, .int (nI k))] := hl
  refine lv_aload_n hx hb dX1_old_0 rfl (lv_at hl 0 rfl) ?_
  refine va_get (D := (dC, dI)) (ci := 0) (v := .ref (ad 2)) (C := RX1) (T := TX1) (N := 12) hx hb hts in_X1 hown hK hP 0 rfl rfl 1 (by decide) (hts _ q31) (fun _ h9 => h9) rfl dX1_old_1 ?_
  refine lv_bipush (v := (nI 64)) hx hb dX1_old_4 (by decide) ?_
  refine lv_iload_n hx hb dX1_old_6 rfl (lv_at hl 1 rfl) ?_
  refine q_iadd hx hb dX1_old_7 ?_
  refine q_iald (v := (nI (q_last 0 (L k)))) hx hb hK hP 2 0 rfl rfl (by omega) (by decide) (x_old hR hk1 hk4 hne) dX1_old_8 ?_
  exact W.iret (v := (nI (q_last 0 (L k)))) hx hb hr (fun t ht hW => ⟨⟨(nI (q_last 0 (L k))), (), rfl, rfl, by rw [ht]; exact hP, va_K.moved hW.alike hK, hD⟩, hS.F ht⟩) hS.2.2 dX1_old_9
/-- go(a): written back, if dirty -/
abbrev wsX1_go : List Cond := ws_ yX1_go cX1_go 2 none
set_option maxHeartbeats 4000000 in
set_option maxRecDepth 100000 in
theorem metX1_go (l : Launch) (dC : Nat → ClassId) (dI : Nat → Nat → Nat) (ci cz : ClassId) (ad : Nat → Nat) (sz : Nat) (nx pv lo le wo di ba : Nat → Int32) (cp tg hi mi go : Int32) {a : Nat} (ha : a < 64) : Met l yX1_go wsX1_go ({ frames := 0, cells := 0, slots := 0, locals := 0 }) (va_Pc [.ref (ad 0), .int (nI a)] (q_Pre dC dI ci cz sz (xw ad ci cz nx pv lo le wo di ba cp tg hi mi go))) (va_Qv (fun (_ : Unit) => True) (fun (_ : Unit) t => q_Post dC dI ci cz (va_A (xw ad ci cz nx pv lo le wo di ba cp tg hi mi go) sz) (xw ad ci cz nx pv lo le wo (upd di a (nI 0)) (q_gb wo ba di a) cp tg hi mi (go + nI 1)) t) (va_A (xw ad ci cz nx pv lo le wo di ba cp tg hi mi go) sz)) 0 0 (va_A (xw ad ci cz nx pv lo le wo di ba cp tg hi mi go) sz) := by
  refine Met.ofW (cc := cX1_go) (maxL := 2) (ret := none) (by decide) rfl ?_
  intro p e s m args below meth c s₁ B hml hv
  obtain ⟨rfl, hsz, hP, hK, hD0⟩ := hv
  have hx := B.exec
  have hb := B.bytes
  have hr := B.returns
  have hts := atoms_spec (ws := wsX1_go) B.pre
  have hts : ∀ w ∈ lw_all, w.before _ s = true := fun w h => hts w (List.mem_cons_of_mem _ h)
  have hown : s.vm.findClass RX1 = some m.cls := findClass_of_methodNamed B.named
  have hlocks := B.notSynchronized
  subst hsz
  have hD := hD0.self (sz := s.heap.size)
  generalize hAe : va_A (xw ad ci cz nx pv lo le wo di ba cp tg hi mi go) s.heap.size = A at hD ⊢
  have hA : ∀ q : Nat, s.heap.size ≤ q → A q := fun q h => by rw [← hAe]; exact Or.inr h
  have hS : va_S A s.heap s.heap [] := va_S.rf
  have hP : va_P (dC, dI) vwCl (xw ad ci cz nx pv lo le wo di ba cp tg hi mi go) s.heap := hP
  have hl := lv_entry ([.ref (ad 0), .int (nI a)]) (n := 2) (Nat.le_of_ble_eq_true rfl)
  rw [lg_entry_eq]
  generalize (lg_sl ([.ref (ad 0), .int (nI a)]) ++ List.replicate (2 - (lg_sl ([.ref (ad 0), .int (nI a)])).length) Slot.unset).toArray = ls at hl ⊢
  have hl : lv_has ls 2 [(0, .ref (ad 0)), (1, .int (nI a))] := hl
  refine lv_aload_n hx hb dX1_go_0 rfl (lv_at hl 0 rfl) ?_
  refine va_get (D := (dC, dI)) (ci := 0) (v := .ref (ad 6)) (C := RX1) (T := TX1) (N := 12) hx hb hts in_X1 hown hK hP 0 rfl rfl 5 (by decide) (hts _ q35) (fun _ h9 => h9) rfl dX1_go_1 ?_
  refine lv_iload_n hx hb dX1_go_4 rfl (lv_at hl 1 rfl) ?_
  refine q_zald (v := (di a)) hx hb hK hP 6 1 rfl rfl (by omega) (by decide) rfl dX1_go_5 ?_
  refine q_bf_eq (tgt := 21) hx hb dX1_go_6 (by decide) (fun hc => ?_) (fun hc => ?_)
  · have eb : q_gb wo ba di a = ba := if_pos hc
    have hP : va_P (dC, dI) vwCl (xw ad ci cz nx pv lo le wo di (q_gb wo ba di a) cp tg hi mi go) s.heap := by rw [eb]; exact hP
    have hD : va_D A (xw ad ci cz nx pv lo le wo di (q_gb wo ba di a) cp tg hi mi go) := by rw [eb]; exact hD
    refine lv_aload_n hx hb dX1_go_21 rfl (lv_at hl 0 rfl) ?_
    refine va_get (D := (dC, dI)) (ci := 0) (v := .ref (ad 6)) (C := RX1) (T := TX1) (N := 12) hx hb hts in_X1 hown hK hP 0 rfl rfl 5 (by decide) (hts _ q35) (fun _ h9 => h9) rfl dX1_go_22 ?_
    refine lv_iload_n hx hb dX1_go_25 rfl (lv_at hl 1 rfl) ?_
    refine lv_iconst (v := (nI 0)) hx hb dX1_go_26 (by decide) ?_
    refine q_zast (g := (upd di a (nI 0))) hx hb hK hP hD hS 6 1 rfl rfl (by omega) (by decide) (by decide) rfl dX1_go_27 (fun H locs hP hD hS => ?_)
    have hP : va_P (dC, dI) vwCl (xw ad ci cz nx pv lo le wo (upd di a (nI 0)) (q_gb wo ba di a) cp tg hi mi go) H := hP
    have hD : va_D A (xw ad ci cz nx pv lo le wo (upd di a (nI 0)) (q_gb wo ba di a) cp tg hi mi go) := hD
    refine lv_aload_n hx hb dX1_go_28 rfl (lv_at hl 0 rfl) ?_
    refine lv_dup hx hb dX1_go_29 rfl ?_
    refine va_get (D := (dC, dI)) (ci := 0) (v := .int go) (C := RX1) (T := TX1) (N := 12) hx hb hts in_X1 hown hK hP 0 rfl rfl 11 (by decide) (hts _ q41) (fun _ h9 => h9) rfl dX1_go_30 ?_
    refine lv_iconst (v := (nI 1)) hx hb dX1_go_33 (by decide) ?_
    refine lv_iadd hx hb dX1_go_34 ?_
    refine va_put (D := (dC, dI)) (ci := 0) (v := .int (go + (nI 1))) (ty := .int) (C := RX1) (T := TX1) (N := 12) hx hb hts in_X1 tyX1 tyX1_ok nmX1 hown hK hP hD hS 0 rfl rfl 11 (by decide) (hts _ q41) (fun _ h9 => h9) rfl (by decide +kernel) rfl rfl (Nat.le_of_ble_eq_true rfl) dX1_go_35 (fun H locs hP hD hS => ?_)
    have hP : va_P (dC, dI) vwCl (xw ad ci cz nx pv lo le wo (upd di a (nI 0)) (q_gb wo ba di a) cp tg hi mi (go + (nI 1))) H := hP
    have hD : va_D A (xw ad ci cz nx pv lo le wo (upd di a (nI 0)) (q_gb wo ba di a) cp tg hi mi (go + (nI 1))) := hD
    exact W.vret hx hb hr (fun t ht hW => ⟨⟨(), rfl, trivial, by rw [ht]; exact hP, va_K.moved hW.alike hK, hD⟩, hS.F ht⟩) hS.2.2 dX1_go_38
  · refine lv_aload_n hx hb dX1_go_9 rfl (lv_at hl 0 rfl) ?_
    refine va_get (D := (dC, dI)) (ci := 0) (v := .ref (ad 7)) (C := RX1) (T := TX1) (N := 12) hx hb hts in_X1 hown hK hP 0 rfl rfl 6 (by decide) (hts _ q36) (fun _ h9 => h9) rfl dX1_go_10 ?_
    refine lv_iload_n hx hb dX1_go_13 rfl (lv_at hl 1 rfl) ?_
    refine lv_aload_n hx hb dX1_go_14 rfl (lv_at hl 0 rfl) ?_
    refine va_get (D := (dC, dI)) (ci := 0) (v := .ref (ad 5)) (C := RX1) (T := TX1) (N := 12) hx hb hts in_X1 hown hK hP 0 rfl rfl 4 (by decide) (hts _ q34) (fun _ h9 => h9) rfl dX1_go_15 ?_
    refine lv_iload_n hx hb dX1_go_18 rfl (lv_at hl 1 rfl) ?_
    refine q_iald (v := (wo a)) hx hb hK hP 5 0 rfl rfl (by omega) (by decide) rfl dX1_go_19 ?_
    refine q_iast (g := (q_gb wo ba di a)) hx hb hK hP hD hS 7 0 rfl rfl (by omega) (by decide) ((if_neg hc).symm) dX1_go_20 (fun H locs hP hD hS => ?_)
    have hP : va_P (dC, dI) vwCl (xw ad ci cz nx pv lo le wo di (q_gb wo ba di a) cp tg hi mi go) H := hP
    have hD : va_D A (xw ad ci cz nx pv lo le wo di (q_gb wo ba di a) cp tg hi mi go) := hD
    refine lv_aload_n hx hb dX1_go_21 rfl (lv_at hl 0 rfl) ?_
    refine va_get (D := (dC, dI)) (ci := 0) (v := .ref (ad 6)) (C := RX1) (T := TX1) (N := 12) hx hb hts in_X1 hown hK hP 0 rfl rfl 5 (by decide) (hts _ q35) (fun _ h9 => h9) rfl dX1_go_22 ?_
    refine lv_iload_n hx hb dX1_go_25 rfl (lv_at hl 1 rfl) ?_
    refine lv_iconst (v := (nI 0)) hx hb dX1_go_26 (by decide) ?_
    refine q_zast (g := (upd di a (nI 0))) hx hb hK hP hD hS 6 1 rfl rfl (by omega) (by decide) (by decide) rfl dX1_go_27 (fun H locs hP hD hS => ?_)
    have hP : va_P (dC, dI) vwCl (xw ad ci cz nx pv lo le wo (upd di a (nI 0)) (q_gb wo ba di a) cp tg hi mi go) H := hP
    have hD : va_D A (xw ad ci cz nx pv lo le wo (upd di a (nI 0)) (q_gb wo ba di a) cp tg hi mi go) := hD
    refine lv_aload_n hx hb dX1_go_28 rfl (lv_at hl 0 rfl) ?_
    refine lv_dup hx hb dX1_go_29 rfl ?_
    refine va_get (D := (dC, dI)) (ci := 0) (v := .int go) (C := RX1) (T := TX1) (N := 12) hx hb hts in_X1 hown hK hP 0 rfl rfl 11 (by decide) (hts _ q41) (fun _ h9 => h9) rfl dX1_go_30 ?_
    refine lv_iconst (v := (nI 1)) hx hb dX1_go_33 (by decide) ?_
    refine lv_iadd hx hb dX1_go_34 ?_
    refine va_put (D := (dC, dI)) (ci := 0) (v := .int (go + (nI 1))) (ty := .int) (C := RX1) (T := TX1) (N := 12) hx hb hts in_X1 tyX1 tyX1_ok nmX1 hown hK hP hD hS 0 rfl rfl 11 (by decide) (hts _ q41) (fun _ h9 => h9) rfl (by decide +kernel) rfl rfl (Nat.le_of_ble_eq_true rfl) dX1_go_35 (fun H locs hP hD hS => ?_)
    have hP : va_P (dC, dI) vwCl (xw ad ci cz nx pv lo le wo (upd di a (nI 0)) (q_gb wo ba di a) cp tg hi mi (go + (nI 1))) H := hP
    have hD : va_D A (xw ad ci cz nx pv lo le wo (upd di a (nI 0)) (q_gb wo ba di a) cp tg hi mi (go + (nI 1))) := hD
    exact W.vret hx hb hr (fun t ht hW => ⟨⟨(), rfl, trivial, by rw [ht]; exact hP, va_K.moved hW.alike hK, hD⟩, hS.F ht⟩) hS.2.2 dX1_go_38
end
section
/-- makeRoom(a) -/
abbrev wsX1_makeRoom : List Cond := ws_ yX1_makeRoom cX1_makeRoom 4 none
set_option maxHeartbeats 4000000 in
set_option maxRecDepth 100000 in
theorem metX1_makeRoom (l : Launch) (dC : Nat → ClassId) (dI : Nat → Nat → Nat) (ci cz : ClassId) (ad : Nat → Nat) (sz : Nat) (nx pv lo le wo di ba : Nat → Int32) (cp hi mi go : Int32) {L : Nat → List Nat} {tg a : Nat} (hok : q_ok L) (hR : x_rep L nx pv lo le) (ha : a < 64) (htg : tg ≤ 24) (hne : ¬ q_fst L tg a → L 2 ≠ []) : Met l yX1_makeRoom wsX1_makeRoom ({ frames := 2, cells := 0, slots := 0, locals := 44 }) (va_Pc [.ref (ad 0), .int (nI a)] (q_Pre dC dI ci cz sz (xw ad ci cz nx pv lo le wo di ba cp (nI tg) hi mi go))) (va_Qv (fun u : x_U => x_rep (q_mk wo tg a (L, ba, di, go)).1 u.1 u.2.1 u.2.2.1 u.2.2.2) (xB dC dI ci cz (va_A (xw ad ci cz nx pv lo le wo di ba cp (nI tg) hi mi go) sz) ad wo ((q_mk wo tg a (L, ba, di, go)).2.2.1) ((q_mk wo tg a (L, ba, di, go)).2.1) cp (nI tg) hi mi ((q_mk wo tg a (L, ba, di, go)).2.2.2)) (va_A (xw ad ci cz nx pv lo le wo di ba cp (nI tg) hi mi go) sz)) 0 0 (va_A (xw ad ci cz nx pv lo le wo di ba cp (nI tg) hi mi go) sz) := by
  refine Met.ofW (cc := cX1_makeRoom) (maxL := 4) (ret := none) (by decide) rfl ?_
  intro p e s m args below meth c s₁ B hml hv
  obtain ⟨rfl, hsz, hP, hK, hD0⟩ := hv
  have hx := B.exec
  have hb := B.bytes
  have hr := B.returns
  have hts := atoms_spec (ws := wsX1_makeRoom) B.pre
  have hts : ∀ w ∈ lw_all, w.before _ s = true := fun w h => hts w (List.mem_cons_of_mem _ h)
  have hown : s.vm.findClass RX1 = some m.cls := findClass_of_methodNamed B.named
  have hlocks := B.notSynchronized
  subst hsz
  have hD := hD0.self (sz := s.heap.size)
  generalize hAe : va_A (xw ad ci cz nx pv lo le wo di ba cp (nI tg) hi mi go) s.heap.size = A at hD ⊢
  have hA : ∀ q : Nat, s.heap.size ≤ q → A q := fun q h => by rw [← hAe]; exact Or.inr h
  have hS : va_S A s.heap s.heap [] := va_S.rf
  have hP : va_P (dC, dI) vwCl (xw ad ci cz nx pv lo le wo di ba cp (nI tg) hi mi go) s.heap := hP
  have hl := lv_entry ([.ref (ad 0), .int (nI a)]) (n := 4) (Nat.le_of_ble_eq_true rfl)
  rw [lg_entry_eq]
  generalize (lg_sl ([.ref (ad 0), .int (nI a)]) ++ List.replicate (4 - (lg_sl ([.ref (ad 0), .int (nI a)])).length) Slot.unset).toArray = ls at hl ⊢
  have hl : lv_has ls 4 [(0, .ref (ad 0)), (1, .int (nI a))] := hl
  have h1 := q_L64 hok 1
  have hw4 := q_wh_le L a
  have KT : q_fst L tg a → W p l e (headSpec wsX1_makeRoom ({ frames := 2, cells := 0, slots := 0, locals := 44 })).room s m ([.ref (ad 0), .int (nI a)] : List Value).toArray below meth c s.heap [] 0 0 (MQ below (va_Qv (fun u : x_U => x_rep (q_mk wo tg a (L, ba, di, go)).1 u.1 u.2.1 u.2.2.1 u.2.2.2) (xB dC dI ci cz A ad wo ((q_mk wo tg a (L, ba, di, go)).2.2.1) ((q_mk wo tg a (L, ba, di, go)).2.1) cp (nI tg) hi mi ((q_mk wo tg a (L, ba, di, go)).2.2.2)) A) ([.ref (ad 0), .int (nI a)] : List Value).toArray s 0 0 A) (F0 m 43 ls []) := by
    intro hf
    have e9 : (q_mk wo tg a (L, ba, di, go)) = q_ev wo (q_last 0 (L 1)) 3 (L, ba, di, go) := if_pos hf
    have hlt : q_last 0 (L 1) < 64 := q_lt hok (q_fst_ne hf)
    refine lv_iconst (v := (nI 1)) hx hb dX1_makeRoom_43 (by decide) ?_
    refine lv_goto (tgt := 48) hx hb dX1_makeRoom_44 (by decide) ?_
    refine lv_istore_n (lv' := [(2, .int (nI 1)), (0, .ref (ad 0)), (1, .int (nI a))]) hx hb dX1_makeRoom_48 rfl hl (by decide) rfl (fun ls hl => ?_)
    refine lv_aload_n hx hb dX1_makeRoom_49 rfl (lv_at hl 1 rfl) ?_
    refine lv_iload_n hx hb dX1_makeRoom_50 rfl (lv_at hl 0 rfl) ?_
    refine q_if_eq (tgt := 58) hx hb (by decide) dX1_makeRoom_51 (by decide) (fun q => absurd q (by decide)) (fun _ => ?_)
    refine lv_iconst (v := (nI 1)) hx hb dX1_makeRoom_54 (by decide) ?_
    refine lv_goto (tgt := 59) hx hb dX1_makeRoom_55 (by decide) ?_
    have hFc := va_free (wc := (xw ad ci cz nx pv lo le wo di ba cp (nI tg) hi mi go)) hD hS hA [0, 1, 2, 3, 4, 5, 6, 7] rfl
    refine va_calli (va_runV (As := [.int (nI 1)]) (rest := []) ⟨hx, hb, hml, hown, hts⟩ (metX1_old l dC dI ci cz ad s.heap.size nx pv lo le wo di ba cp (nI tg) hi mi go hR (by decide) (by decide) (q_fst_ne hf)) (cwV 1 hts (lw_V q96 q98 qs4 q16 q99) rfl rfl rfl (by decide +kernel) ⟨Nat.le_of_ble_eq_true rfl, Nat.le_of_ble_eq_true rfl⟩) ⟨q_blind, va_recv hK hP (ci := 0) (q0 := 0) rfl rfl, fun U hU hW => q_ent hP hK hD hU hW⟩ rfl rfl hl.1 rfl (lv_room (Nat.le_of_ble_eq_true rfl)) dX1_makeRoom_59 ⟨Nat.le_of_ble_eq_true rfl, Nat.le_of_ble_eq_true rfl⟩) hS (fun q _ h => hFc q h) hFc (fun r1 u t H1 locs ht hvm hw hB hzq hkq hS => ?_)
    obtain ⟨hP1, hK1, hD1⟩ := hB
    rw [ht] at hP1
    have hP : va_P (dC, dI) vwCl (xw ad ci cz nx pv lo le wo di ba cp (nI tg) hi mi go) H1 := hP1
    have hD : va_D A (xw ad ci cz nx pv lo le wo di ba cp (nI tg) hi mi go) := hD1.weaken (fun k q _ h => hFc q.1 h)
    generalize H1 = H at hP hS ⊢
    have hw : r1 = nI (q_last 0 (L 1)) := hw
    subst hw
    refine lv_istore_n (lv' := [(3, .int (nI (q_last 0 (L 1)))), (2, .int (nI 1)), (0, .ref (ad 0)), (1, .int (nI a))]) hx hb dX1_makeRoom_62 rfl hl (by decide) rfl (fun ls hl => ?_)
    refine lv_aload_n hx hb dX1_makeRoom_63 rfl (lv_at hl 2 rfl) ?_
    refine lv_iload_n hx hb dX1_makeRoom_64 rfl (lv_at hl 0 rfl) ?_
    have hFc := va_free (wc := (xw ad ci cz nx pv lo le wo di ba cp (nI tg) hi mi go)) hD hS hA [0, 1, 2, 3, 4, 5, 6, 7] rfl
    refine va_callv (va_runV (As := [.int (nI (q_last 0 (L 1)))]) (rest := []) ⟨hx, hb, hml, hown, hts⟩ (metX1_go l dC dI ci cz ad H.size nx pv lo le wo di ba cp (nI tg) hi mi go hlt) (cwV 1 hts (lw_V q100 q102 qs5 q16 q103) rfl rfl rfl (by decide +kernel) ⟨Nat.le_of_ble_eq_true rfl, Nat.le_of_ble_eq_true rfl⟩) ⟨q_blind, va_recv hK hP (ci := 0) (q0 := 0) rfl rfl, fun U hU hW => q_ent hP hK hD hU hW⟩ rfl rfl hl.1 rfl (lv_room (Nat.le_of_ble_eq_true rfl)) dX1_makeRoom_65 ⟨Nat.le_of_ble_eq_true rfl, Nat.le_of_ble_eq_true rfl⟩) hS (fun q _ h => hFc q h) hFc (fun  u t H1 locs ht hvm hw hB hzq hkq hS => ?_)
    obtain ⟨hP1, hK1, hD1⟩ := hB
    rw [ht] at hP1
    have hP : va_P (dC, dI) vwCl (xw ad ci cz nx pv lo le wo (upd di (q_last 0 (L 1)) (nI 0)) (q_gb wo ba di (q_last 0 (L 1))) cp (nI tg) hi mi (go + nI 1)) H1 := hP1
    have hD : va_D A (xw ad ci cz nx pv lo le wo (upd di (q_last 0 (L 1)) (nI 0)) (q_gb wo ba di (q_last 0 (L 1))) cp (nI tg) hi mi (go + nI 1)) := hD1.weaken (fun k q _ h => hFc q.1 h)
    generalize H1 = H at hP hS ⊢
    refine lv_aload_n hx hb dX1_makeRoom_68 rfl (lv_at hl 2 rfl) ?_
    refine lv_iload_n hx hb dX1_makeRoom_69 rfl (lv_at hl 0 rfl) ?_
    refine lv_iload_n hx hb dX1_makeRoom_70 rfl (lv_at hl 1 rfl) ?_
    refine q_if_eq (tgt := 78) hx hb (by decide) dX1_makeRoom_71 (by decide) (fun q => absurd q (by decide)) (fun _ => ?_)
    refine lv_iconst (v := (nI 3)) hx hb dX1_makeRoom_74 (by decide) ?_
    refine lv_goto (tgt := 79) hx hb dX1_makeRoom_75 (by decide) ?_
    have hFc := va_free (wc := (xw ad ci cz nx pv lo le wo (upd di (q_last 0 (L 1)) (nI 0)) (q_gb wo ba di (q_last 0 (L 1))) cp (nI tg) hi mi (go + nI 1))) hD hS hA [0, 1, 2, 3, 4, 5, 6, 7] rfl
    refine va_callv (va_runV (As := [.int (nI (q_last 0 (L 1))), .int (nI 3)]) (rest := []) ⟨hx, hb, hml, hown, hts⟩ (metX1_move l dC dI ci cz ad H.size nx pv lo le wo (upd di (q_last 0 (L 1)) (nI 0)) (q_gb wo ba di (q_last 0 (L 1))) cp (nI tg) hi mi (go + nI 1) hok hR hlt (show 3 ≤ 4 by decide)) (cwV 2 hts (lw_V q81 q83 qs1 q16 q84) rfl rfl rfl (by decide +kernel) ⟨Nat.le_of_ble_eq_true rfl, Nat.le_of_ble_eq_true rfl⟩) ⟨q_blind, va_recv hK hP (ci := 0) (q0 := 0) rfl rfl, fun U hU hW => q_ent hP hK hD hU hW⟩ rfl rfl hl.1 rfl (lv_room (Nat.le_of_ble_eq_true rfl)) dX1_makeRoom_79 ⟨Nat.le_of_ble_eq_true rfl, Nat.le_of_ble_eq_true rfl⟩) hS (fun q _ h => hFc q h) hFc (fun  u t H1 locs ht hvm hw hB hzq hkq hS => ?_)
    obtain ⟨nx1, pv1, lo1, le1⟩ := u
    obtain ⟨hP1, hK1, hD1⟩ := hB
    rw [ht] at hP1
    have hP : va_P (dC, dI) vwCl (xw ad ci cz nx1 pv1 lo1 le1 wo (upd di (q_last 0 (L 1)) (nI 0)) (q_gb wo ba di (q_last 0 (L 1))) cp (nI tg) hi mi (go + nI 1)) H1 := hP1
    have hD : va_D A (xw ad ci cz nx1 pv1 lo1 le1 wo (upd di (q_last 0 (L 1)) (nI 0)) (q_gb wo ba di (q_last 0 (L 1))) cp (nI tg) hi mi (go + nI 1)) := hD1.weaken (fun k q _ h => hFc q.1 h)
    have hw : x_rep (q_mv L (q_last 0 (L 1)) 3) nx1 pv1 lo1 le1 := hw
    generalize H1 = H at hP hS ⊢
    exact W.vret hx hb hr (fun t ht hW => ⟨⟨(nx1, pv1, lo1, le1), rfl, (by rw [e9]; exact hw), by rw [ht]; exact (by rw [e9]; exact hP), va_K.moved hW.alike hK, (by rw [e9]; exact hD)⟩, hS.F ht⟩) hS.2.2 dX1_makeRoom_82
  have KF : ¬ q_fst L tg a → W p l e (headSpec wsX1_makeRoom ({ frames := 2, cells := 0, slots := 0, locals := 44 })).room s m ([.ref (ad 0), .int (nI a)] : List Value).toArray below meth c s.heap [] 0 0 (MQ below (va_Qv (fun u : x_U => x_rep (q_mk wo tg a (L, ba, di, go)).1 u.1 u.2.1 u.2.2.1 u.2.2.2) (xB dC dI ci cz A ad wo ((q_mk wo tg a (L, ba, di, go)).2.2.1) ((q_mk wo tg a (L, ba, di, go)).2.1) cp (nI tg) hi mi ((q_mk wo tg a (L, ba, di, go)).2.2.2)) A) ([.ref (ad 0), .int (nI a)] : List Value).toArray s 0 0 A) (F0 m 47 ls []) := by
    intro hf
    have e9 : (q_mk wo tg a (L, ba, di, go)) = q_ev wo (q_last 0 (L 2)) 4 (L, ba, di, go) := if_neg hf
    have hlt : q_last 0 (L 2) < 64 := q_lt hok (hne hf)
    refine lv_iconst (v := (nI 0)) hx hb dX1_makeRoom_47 (by decide) ?_
    refine lv_istore_n (lv' := [(2, .int (nI 0)), (0, .ref (ad 0)), (1, .int (nI a))]) hx hb dX1_makeRoom_48 rfl hl (by decide) rfl (fun ls hl => ?_)
    refine lv_aload_n hx hb dX1_makeRoom_49 rfl (lv_at hl 1 rfl) ?_
    refine lv_iload_n hx hb dX1_makeRoom_50 rfl (lv_at hl 0 rfl) ?_
    refine q_if_eq (tgt := 58) hx hb (by decide) dX1_makeRoom_51 (by decide) (fun _ => ?_) (fun q => absurd q (by decide))
    refine lv_iconst (v := (nI 2)) hx hb dX1_makeRoom_58 (by decide) ?_
    have hFc := va_free (wc := (xw ad ci cz nx pv lo le wo di ba cp (nI tg) hi mi go)) hD hS hA [0, 1, 2, 3, 4, 5, 6, 7] rfl
    refine va_calli (va_runV (As := [.int (nI 2)]) (rest := []) ⟨hx, hb, hml, hown, hts⟩ (metX1_old l dC dI ci cz ad s.heap.size nx pv lo le wo di ba cp (nI tg) hi mi go hR (by decide) (by decide) (hne hf)) (cwV 1 hts (lw_V q96 q98 qs4 q16 q99) rfl rfl rfl (by decide +kernel) ⟨Nat.le_of_ble_eq_true rfl, Nat.le_of_ble_eq_true rfl⟩) ⟨q_blind, va_recv hK hP (ci := 0) (q0 := 0) rfl rfl, fun U hU hW => q_ent hP hK hD hU hW⟩ rfl rfl hl.1 rfl (lv_room (Nat.le_of_ble_eq_true rfl)) dX1_makeRoom_59 ⟨Nat.le_of_ble_eq_true rfl, Nat.le_of_ble_eq_true rfl⟩) hS (fun q _ h => hFc q h) hFc (fun r1 u t H1 locs ht hvm hw hB hzq hkq hS => ?_)
    obtain ⟨hP1, hK1, hD1⟩ := hB
    rw [ht] at hP1
    have hP : va_P (dC, dI) vwCl (xw ad ci cz nx pv lo le wo di ba cp (nI tg) hi mi go) H1 := hP1
    have hD : va_D A (xw ad ci cz nx pv lo le wo di ba cp (nI tg) hi mi go) := hD1.weaken (fun k q _ h => hFc q.1 h)
    generalize H1 = H at hP hS ⊢
    have hw : r1 = nI (q_last 0 (L 2)) := hw
    subst hw
    refine lv_istore_n (lv' := [(3, .int (nI (q_last 0 (L 2)))), (2, .int (nI 0)), (0, .ref (ad 0)), (1, .int (nI a))]) hx hb dX1_makeRoom_62 rfl hl (by decide) rfl (fun ls hl => ?_)
    refine lv_aload_n hx hb dX1_makeRoom_63 rfl (lv_at hl 2 rfl) ?_
    refine lv_iload_n hx hb dX1_makeRoom_64 rfl (lv_at hl 0 rfl) ?_
    have hFc := va_free (wc := (xw ad ci cz nx pv lo le wo di ba cp (nI tg) hi mi go)) hD hS hA [0, 1, 2, 3, 4, 5, 6, 7] rfl
    refine va_callv (va_runV (As := [.int (nI (q_last 0 (L 2)))]) (rest := []) ⟨hx, hb, hml, hown, hts⟩ (metX1_go l dC dI ci cz ad H.size nx pv lo le wo di ba cp (nI tg) hi mi go hlt) (cwV 1 hts (lw_V q100 q102 qs5 q16 q103) rfl rfl rfl (by decide +kernel) ⟨Nat.le_of_ble_eq_true rfl, Nat.le_of_ble_eq_true rfl⟩) ⟨q_blind, va_recv hK hP (ci := 0) (q0 := 0) rfl rfl, fun U hU hW => q_ent hP hK hD hU hW⟩ rfl rfl hl.1 rfl (lv_room (Nat.le_of_ble_eq_true rfl)) dX1_makeRoom_65 ⟨Nat.le_of_ble_eq_true rfl, Nat.le_of_ble_eq_true rfl⟩) hS (fun q _ h => hFc q h) hFc (fun  u t H1 locs ht hvm hw hB hzq hkq hS => ?_)
    obtain ⟨hP1, hK1, hD1⟩ := hB
    rw [ht] at hP1
    have hP : va_P (dC, dI) vwCl (xw ad ci cz nx pv lo le wo (upd di (q_last 0 (L 2)) (nI 0)) (q_gb wo ba di (q_last 0 (L 2))) cp (nI tg) hi mi (go + nI 1)) H1 := hP1
    have hD : va_D A (xw ad ci cz nx pv lo le wo (upd di (q_last 0 (L 2)) (nI 0)) (q_gb wo ba di (q_last 0 (L 2))) cp (nI tg) hi mi (go + nI 1)) := hD1.weaken (fun k q _ h => hFc q.1 h)
    generalize H1 = H at hP hS ⊢
    refine lv_aload_n hx hb dX1_makeRoom_68 rfl (lv_at hl 2 rfl) ?_
    refine lv_iload_n hx hb dX1_makeRoom_69 rfl (lv_at hl 0 rfl) ?_
    refine lv_iload_n hx hb dX1_makeRoom_70 rfl (lv_at hl 1 rfl) ?_
    refine q_if_eq (tgt := 78) hx hb (by decide) dX1_makeRoom_71 (by decide) (fun _ => ?_) (fun q => absurd q (by decide))
    refine lv_iconst (v := (nI 4)) hx hb dX1_makeRoom_78 (by decide) ?_
    have hFc := va_free (wc := (xw ad ci cz nx pv lo le wo (upd di (q_last 0 (L 2)) (nI 0)) (q_gb wo ba di (q_last 0 (L 2))) cp (nI tg) hi mi (go + nI 1))) hD hS hA [0, 1, 2, 3, 4, 5, 6, 7] rfl
    refine va_callv (va_runV (As := [.int (nI (q_last 0 (L 2))), .int (nI 4)]) (rest := []) ⟨hx, hb, hml, hown, hts⟩ (metX1_move l dC dI ci cz ad H.size nx pv lo le wo (upd di (q_last 0 (L 2)) (nI 0)) (q_gb wo ba di (q_last 0 (L 2))) cp (nI tg) hi mi (go + nI 1) hok hR hlt (show 4 ≤ 4 by decide)) (cwV 2 hts (lw_V q81 q83 qs1 q16 q84) rfl rfl rfl (by decide +kernel) ⟨Nat.le_of_ble_eq_true rfl, Nat.le_of_ble_eq_true rfl⟩) ⟨q_blind, va_recv hK hP (ci := 0) (q0 := 0) rfl rfl, fun U hU hW => q_ent hP hK hD hU hW⟩ rfl rfl hl.1 rfl (lv_room (Nat.le_of_ble_eq_true rfl)) dX1_makeRoom_79 ⟨Nat.le_of_ble_eq_true rfl, Nat.le_of_ble_eq_true rfl⟩) hS (fun q _ h => hFc q h) hFc (fun  u t H1 locs ht hvm hw hB hzq hkq hS => ?_)
    obtain ⟨nx1, pv1, lo1, le1⟩ := u
    obtain ⟨hP1, hK1, hD1⟩ := hB
    rw [ht] at hP1
    have hP : va_P (dC, dI) vwCl (xw ad ci cz nx1 pv1 lo1 le1 wo (upd di (q_last 0 (L 2)) (nI 0)) (q_gb wo ba di (q_last 0 (L 2))) cp (nI tg) hi mi (go + nI 1)) H1 := hP1
    have hD : va_D A (xw ad ci cz nx1 pv1 lo1 le1 wo (upd di (q_last 0 (L 2)) (nI 0)) (q_gb wo ba di (q_last 0 (L 2))) cp (nI tg) hi mi (go + nI 1)) := hD1.weaken (fun k q _ h => hFc q.1 h)
    have hw : x_rep (q_mv L (q_last 0 (L 2)) 4) nx1 pv1 lo1 le1 := hw
    generalize H1 = H at hP hS ⊢
    exact W.vret hx hb hr (fun t ht hW => ⟨⟨(nx1, pv1, lo1, le1), rfl, (by rw [e9]; exact hw), by rw [ht]; exact (by rw [e9]; exact hP), va_K.moved hW.alike hK, (by rw [e9]; exact hD)⟩, hS.F ht⟩) hS.2.2 dX1_makeRoom_82
  refine lv_aload_n hx hb dX1_makeRoom_0 rfl (lv_at hl 0 rfl) ?_
  refine va_get (D := (dC, dI)) (ci := 0) (v := .ref (ad 4)) (C := RX1) (T := TX1) (N := 12) hx hb hts in_X1 hown hK hP 0 rfl rfl 3 (by decide) (hts _ q33) (fun _ h9 => h9) rfl dX1_makeRoom_1 ?_
  refine lv_iconst (v := (nI 1)) hx hb dX1_makeRoom_4 (by decide) ?_
  refine q_iald (v := (nI ((L 1).length))) hx hb hK hP 4 0 rfl rfl (by decide) (by decide) (hR.2.1 1 (by decide) (by decide)) dX1_makeRoom_5 ?_
  refine lv_aload_n hx hb dX1_makeRoom_6 rfl (lv_at hl 0 rfl) ?_
  refine va_get (D := (dC, dI)) (ci := 0) (v := .int (nI tg)) (C := RX1) (T := TX1) (N := 12) hx hb hts in_X1 hown hK hP 0 rfl rfl 8 (by decide) (hts _ q38) (fun _ h9 => h9) rfl dX1_makeRoom_7 ?_
  refine q_icmp_gt (tgt := 43) hx hb (by omega) (by omega) dX1_makeRoom_10 (by decide) (fun hc => ?_) (fun hc => ?_)
  · exact KT (Or.inl hc)
  · refine lv_aload_n hx hb dX1_makeRoom_13 rfl (lv_at hl 0 rfl) ?_
    refine va_get (D := (dC, dI)) (ci := 0) (v := .ref (ad 4)) (C := RX1) (T := TX1) (N := 12) hx hb hts in_X1 hown hK hP 0 rfl rfl 3 (by decide) (hts _ q33) (fun _ h9 => h9) rfl dX1_makeRoom_14 ?_
    refine lv_iconst (v := (nI 1)) hx hb dX1_makeRoom_17 (by decide) ?_
    refine q_iald (v := (nI ((L 1).length))) hx hb hK hP 4 0 rfl rfl (by decide) (by decide) (hR.2.1 1 (by decide) (by decide)) dX1_makeRoom_18 ?_
    refine lv_aload_n hx hb dX1_makeRoom_19 rfl (lv_at hl 0 rfl) ?_
    refine va_get (D := (dC, dI)) (ci := 0) (v := .int (nI tg)) (C := RX1) (T := TX1) (N := 12) hx hb hts in_X1 hown hK hP 0 rfl rfl 8 (by decide) (hts _ q38) (fun _ h9 => h9) rfl dX1_makeRoom_20 ?_
    refine q_icmp_ne (tgt := 47) hx hb (by omega) (by omega) dX1_makeRoom_23 (by decide) (fun hc2 => ?_) (fun hc2 => ?_)
    · exact KF (fun q => by rcases q with q | q; omega; exact hc2 q.1)
    · refine lv_aload_n hx hb dX1_makeRoom_26 rfl (lv_at hl 0 rfl) ?_
      refine va_get (D := (dC, dI)) (ci := 0) (v := .int (nI tg)) (C := RX1) (T := TX1) (N := 12) hx hb hts in_X1 hown hK hP 0 rfl rfl 8 (by decide) (hts _ q38) (fun _ h9 => h9) rfl dX1_makeRoom_27 ?_
      refine q_if_le (tgt := 47) hx hb (by omega) dX1_makeRoom_30 (by decide) (fun hc3 => ?_) (fun hc3 => ?_)
      · exact KF (fun q => by rcases q with q | q <;> omega)
      · refine lv_aload_n hx hb dX1_makeRoom_33 rfl (lv_at hl 0 rfl) ?_
        refine va_get (D := (dC, dI)) (ci := 0) (v := .ref (ad 3)) (C := RX1) (T := TX1) (N := 12) hx hb hts in_X1 hown hK hP 0 rfl rfl 2 (by decide) (hts _ q32) (fun _ h9 => h9) rfl dX1_makeRoom_34 ?_
        refine lv_iload_n hx hb dX1_makeRoom_37 rfl (lv_at hl 1 rfl) ?_
        refine q_iald (v := (nI (q_wh L a))) hx hb hK hP 3 0 rfl rfl (by omega) (by decide) (hR.1 a ha) dX1_makeRoom_38 ?_
        refine lv_iconst (v := (nI 4)) hx hb dX1_makeRoom_39 (by decide) ?_
        refine q_icmp_ne (tgt := 47) hx hb (by omega) (by omega) dX1_makeRoom_40 (by decide) (fun hc4 => ?_) (fun hc4 => ?_)
        · exact KF (fun q => by rcases q with q | q; omega; exact hc4 q.2.2)
        · exact KT (Or.inr ⟨hc2, hc3, hc4⟩)
/-- fresh(a) -/
abbrev wsX1_fresh : List Cond := ws_ yX1_fresh cX1_fresh 5 none
set_option maxHeartbeats 4000000 in
set_option maxRecDepth 100000 in
theorem metX1_fresh (l : Launch) (dC : Nat → ClassId) (dI : Nat → Nat → Nat) (ci cz : ClassId) (ad : Nat → Nat) (sz : Nat) (nx pv lo le wo di ba : Nat → Int32) (hi mi go : Int32) {L : Nat → List Nat} {cp tg a : Nat} (hI : q_inv cp L di tg) (hR : x_rep L nx pv lo le) (ha : a < 64) : Met l yX1_fresh wsX1_fresh ({ frames := 3, cells := 0, slots := 0, locals := 67 }) (va_Pc [.ref (ad 0), .int (nI a)] (q_Pre dC dI ci cz sz (xw ad ci cz nx pv lo le wo di ba (nI cp) (nI tg) hi mi go))) (va_Qv (fun u : x_U => x_rep (q_fr wo cp tg a (L, ba, di, go)).1 u.1 u.2.1 u.2.2.1 u.2.2.2) (xB dC dI ci cz (va_A (xw ad ci cz nx pv lo le wo di ba (nI cp) (nI tg) hi mi go) sz) ad wo ((q_fr wo cp tg a (L, ba, di, go)).2.2.1) ((q_fr wo cp tg a (L, ba, di, go)).2.1) (nI cp) (nI tg) hi mi ((q_fr wo cp tg a (L, ba, di, go)).2.2.2)) (va_A (xw ad ci cz nx pv lo le wo di ba (nI cp) (nI tg) hi mi go) sz)) 0 0 (va_A (xw ad ci cz nx pv lo le wo di ba (nI cp) (nI tg) hi mi go) sz) := by
  refine Met.ofW (cc := cX1_fresh) (maxL := 5) (ret := none) (by decide) rfl ?_
  intro p e s m args below meth c s₁ B hml hv
  obtain ⟨rfl, hsz, hP, hK, hD0⟩ := hv
  have hx := B.exec
  have hb := B.bytes
  have hr := B.returns
  have hts := atoms_spec (ws := wsX1_fresh) B.pre
  have hts : ∀ w ∈ lw_all, w.before _ s = true := fun w h => hts w (List.mem_cons_of_mem _ h)
  have hown : s.vm.findClass RX1 = some m.cls := findClass_of_methodNamed B.named
  have hlocks := B.notSynchronized
  subst hsz
  have hD := hD0.self (sz := s.heap.size)
  generalize hAe : va_A (xw ad ci cz nx pv lo le wo di ba (nI cp) (nI tg) hi mi go) s.heap.size = A at hD ⊢
  have hA : ∀ q : Nat, s.heap.size ≤ q → A q := fun q h => by rw [← hAe]; exact Or.inr h
  have hS : va_S A s.heap s.heap [] := va_S.rf
  have hP : va_P (dC, dI) vwCl (xw ad ci cz nx pv lo le wo di ba (nI cp) (nI tg) hi mi go) s.heap := hP
  have hl := lv_entry ([.ref (ad 0), .int (nI a)]) (n := 5) (Nat.le_of_ble_eq_true rfl)
  rw [lg_entry_eq]
  generalize (lg_sl ([.ref (ad 0), .int (nI a)]) ++ List.replicate (5 - (lg_sl ([.ref (ad 0), .int (nI a)])).length) Slot.unset).toArray = ls at hl ⊢
  have hl : lv_has ls 5 [(0, .ref (ad 0)), (1, .int (nI a))] := hl
  have hok := hI.1.1
  have hcb := hI.2.1
  have h1 := q_L64 hok 1
  have h2 := q_L64 hok 2
  have h3 := q_L64 hok 3
  have h4 := q_L64 hok 4
  refine lv_aload_n hx hb dX1_fresh_0 rfl (lv_at hl 0 rfl) ?_
  refine va_get (D := (dC, dI)) (ci := 0) (v := .ref (ad 4)) (C := RX1) (T := TX1) (N := 12) hx hb hts in_X1 hown hK hP 0 rfl rfl 3 (by decide) (hts _ q33) (fun _ h9 => h9) rfl dX1_fresh_1 ?_
  refine lv_iconst (v := (nI 1)) hx hb dX1_fresh_4 (by decide) ?_
  refine q_iald (v := (nI ((L 1).length))) hx hb hK hP 4 0 rfl rfl (by decide) (by decide) (hR.2.1 1 (by decide) (by decide)) dX1_fresh_5 ?_
  refine lv_aload_n hx hb dX1_fresh_6 rfl (lv_at hl 0 rfl) ?_
  refine va_get (D := (dC, dI)) (ci := 0) (v := .ref (ad 4)) (C := RX1) (T := TX1) (N := 12) hx hb hts in_X1 hown hK hP 0 rfl rfl 3 (by decide) (hts _ q33) (fun _ h9 => h9) rfl dX1_fresh_7 ?_
  refine lv_iconst (v := (nI 3)) hx hb dX1_fresh_10 (by decide) ?_
  refine q_iald (v := (nI ((L 3).length))) hx hb hK hP 4 0 rfl rfl (by decide) (by decide) (hR.2.1 3 (by decide) (by decide)) dX1_fresh_11 ?_
  refine q_iadd hx hb dX1_fresh_12 ?_
  refine lv_istore_n (lv' := [(2, .int (nI (((L 1).length) + ((L 3).length)))), (0, .ref (ad 0)), (1, .int (nI a))]) hx hb dX1_fresh_13 rfl hl (by decide) rfl (fun ls hl => ?_)
  refine lv_iload_n hx hb dX1_fresh_14 rfl (lv_at hl 0 rfl) ?_
  refine lv_aload_n hx hb dX1_fresh_15 rfl (lv_at hl 1 rfl) ?_
  refine va_get (D := (dC, dI)) (ci := 0) (v := .ref (ad 4)) (C := RX1) (T := TX1) (N := 12) hx hb hts in_X1 hown hK hP 0 rfl rfl 3 (by decide) (hts _ q33) (fun _ h9 => h9) rfl dX1_fresh_16 ?_
  refine lv_iconst (v := (nI 2)) hx hb dX1_fresh_19 (by decide) ?_
  refine q_iald (v := (nI ((L 2).length))) hx hb hK hP 4 0 rfl rfl (by decide) (by decide) (hR.2.1 2 (by decide) (by decide)) dX1_fresh_20 ?_
  refine q_iadd hx hb dX1_fresh_21 ?_
  refine lv_aload_n hx hb dX1_fresh_22 rfl (lv_at hl 1 rfl) ?_
  refine va_get (D := (dC, dI)) (ci := 0) (v := .ref (ad 4)) (C := RX1) (T := TX1) (N := 12) hx hb hts in_X1 hown hK hP 0 rfl rfl 3 (by decide) (hts _ q33) (fun _ h9 => h9) rfl dX1_fresh_23 ?_
  refine lv_iconst (v := (nI 4)) hx hb dX1_fresh_26 (by decide) ?_
  refine q_iald (v := (nI ((L 4).length))) hx hb hK hP 4 0 rfl rfl (by decide) (by decide) (hR.2.1 4 (by decide) (by decide)) dX1_fresh_27 ?_
  refine q_iadd hx hb dX1_fresh_28 ?_
  refine lv_istore_n (lv' := [(3, .int (nI (((((L 1).length) + ((L 3).length)) + ((L 2).length)) + ((L 4).length)))), (2, .int (nI (((L 1).length) + ((L 3).length)))), (0, .ref (ad 0)), (1, .int (nI a))]) hx hb dX1_fresh_29 rfl hl (by decide) rfl (fun ls hl => ?_)
  refine lv_iload_n hx hb dX1_fresh_30 rfl (lv_at hl 1 rfl) ?_
  refine lv_aload_n hx hb dX1_fresh_31 rfl (lv_at hl 2 rfl) ?_
  refine va_get (D := (dC, dI)) (ci := 0) (v := .int (nI cp)) (C := RX1) (T := TX1) (N := 12) hx hb hts in_X1 hown hK hP 0 rfl rfl 7 (by decide) (hts _ q37) (fun _ h9 => h9) rfl dX1_fresh_32 ?_
  refine q_icmp_ne (tgt := 69) hx hb (by omega) (by omega) dX1_fresh_35 (by decide) (fun g1 => ?_) (fun g1 => ?_)
  · refine lv_iload_n hx hb dX1_fresh_69 rfl (lv_at hl 1 rfl) ?_
    refine lv_aload_n hx hb dX1_fresh_70 rfl (lv_at hl 2 rfl) ?_
    refine va_get (D := (dC, dI)) (ci := 0) (v := .int (nI cp)) (C := RX1) (T := TX1) (N := 12) hx hb hts in_X1 hown hK hP 0 rfl rfl 7 (by decide) (hts _ q37) (fun _ h9 => h9) rfl dX1_fresh_71 ?_
    refine q_icmp_ne (tgt := 100) hx hb (by omega) (by omega) dX1_fresh_74 (by decide) (fun g1b => ?_) (fun g1b => ?_)
    · refine lv_iload_n hx hb dX1_fresh_100 rfl (lv_at hl 0 rfl) ?_
      refine lv_aload_n hx hb dX1_fresh_101 rfl (lv_at hl 2 rfl) ?_
      refine va_get (D := (dC, dI)) (ci := 0) (v := .int (nI cp)) (C := RX1) (T := TX1) (N := 12) hx hb hts in_X1 hown hK hP 0 rfl rfl 7 (by decide) (hts _ q37) (fun _ h9 => h9) rfl dX1_fresh_102 ?_
      refine q_icmp_lt (tgt := 133) hx hb (by omega) (by omega) dX1_fresh_105 (by decide) (fun g3 => ?_) (fun g3 => ?_)
      · have e9 : (q_fr wo cp tg a (L, ba, di, go)) = (L, ba, di, go) := by unfold q_fr; rw [if_neg g1, if_neg (show ¬ cp ≤ (L 1).length + (L 2).length + (L 3).length + (L 4).length by omega)]
        exact W.vret hx hb hr (fun t ht hW => ⟨⟨(nx, pv, lo, le), rfl, (by rw [e9]; exact hR), by rw [ht]; exact (by rw [e9]; exact hP), va_K.moved hW.alike hK, (by rw [e9]; exact hD)⟩, hS.F ht⟩) hS.2.2 dX1_fresh_133
      · have g3b : cp ≤ (L 1).length + (L 2).length + (L 3).length + (L 4).length := by omega
        refine lv_iload_n hx hb dX1_fresh_108 rfl (lv_at hl 0 rfl) ?_
        refine lv_iconst (v := (nI 2)) hx hb dX1_fresh_109 (by decide) ?_
        refine lv_aload_n hx hb dX1_fresh_110 rfl (lv_at hl 2 rfl) ?_
        refine va_get (D := (dC, dI)) (ci := 0) (v := .int (nI cp)) (C := RX1) (T := TX1) (N := 12) hx hb hts in_X1 hown hK hP 0 rfl rfl 7 (by decide) (hts _ q37) (fun _ h9 => h9) rfl dX1_fresh_111 ?_
        refine q_imul hx hb dX1_fresh_114 ?_
        refine q_icmp_ne (tgt := 128) hx hb (by omega) (by omega) dX1_fresh_115 (by decide) (fun g4 => ?_) (fun g4 => ?_)
        · refine lv_aload_n hx hb dX1_fresh_128 rfl (lv_at hl 2 rfl) ?_
          refine lv_iload_n hx hb dX1_fresh_129 rfl (lv_at hl 3 rfl) ?_
          have e9 : (q_fr wo cp tg a (L, ba, di, go)) = q_mk wo tg a (L, ba, di, go) := by unfold q_fr; rw [if_neg g1, if_pos g3b, if_neg (show ¬ (L 1).length + (L 2).length + (L 3).length + (L 4).length = 2 * cp by omega)]
          have hFc := va_free (wc := (xw ad ci cz nx pv lo le wo di ba (nI cp) (nI tg) hi mi go)) hD hS hA [0, 1, 2, 3, 4, 5, 6, 7] rfl
          refine va_callv (va_runV (As := [.int (nI a)]) (rest := []) ⟨hx, hb, hml, hown, hts⟩ (metX1_makeRoom l dC dI ci cz ad s.heap.size nx pv lo le wo di ba (nI cp) hi mi go (tg := tg) (a := a) hok hR ha (show tg ≤ 24 by omega) (fun _ => q_frD hI g1 g3b)) (cwV 1 hts (lw_V q92 q94 qs3 q16 q95) rfl rfl rfl (by decide +kernel) ⟨Nat.le_of_ble_eq_true rfl, Nat.le_of_ble_eq_true rfl⟩) ⟨q_blind, va_recv hK hP (ci := 0) (q0 := 0) rfl rfl, fun U hU hW => q_ent hP hK hD hU hW⟩ rfl rfl hl.1 rfl (lv_room (Nat.le_of_ble_eq_true rfl)) dX1_fresh_130 ⟨Nat.le_of_ble_eq_true rfl, Nat.le_of_ble_eq_true rfl⟩) hS (fun q _ h => hFc q h) hFc (fun  u t H1 locs ht hvm hw2 hB hzq hkq hS => ?_)
          obtain ⟨nx2, pv2, lo2, le2⟩ := u
          obtain ⟨hP1, hK1, hD1⟩ := hB
          rw [ht] at hP1
          have hP : va_P (dC, dI) vwCl (xw ad ci cz nx2 pv2 lo2 le2 wo ((q_mk wo tg a (L, ba, di, go)).2.2.1) ((q_mk wo tg a (L, ba, di, go)).2.1) (nI cp) (nI tg) hi mi ((q_mk wo tg a (L, ba, di, go)).2.2.2)) H1 := hP1
          have hD : va_D A (xw ad ci cz nx2 pv2 lo2 le2 wo ((q_mk wo tg a (L, ba, di, go)).2.2.1) ((q_mk wo tg a (L, ba, di, go)).2.1) (nI cp) (nI tg) hi mi ((q_mk wo tg a (L, ba, di, go)).2.2.2)) := hD1.weaken (fun k q _ h => hFc q.1 h)
          have hw2 : x_rep (q_mk wo tg a (L, ba, di, go)).1 nx2 pv2 lo2 le2 := hw2
          generalize H1 = H at hP hS ⊢
          exact W.vret hx hb hr (fun t ht hW => ⟨⟨(nx2, pv2, lo2, le2), rfl, (by rw [e9]; exact hw2), by rw [ht]; exact (by rw [e9]; exact hP), va_K.moved hW.alike hK, (by rw [e9]; exact hD)⟩, hS.F ht⟩) hS.2.2 dX1_fresh_133
        · have g4b : (L 1).length + (L 2).length + (L 3).length + (L 4).length = 2 * cp := by omega
          obtain ⟨hne9, h64, hok9, h29⟩ := q_frC hI g1 g4b
          have e9 : (q_fr wo cp tg a (L, ba, di, go)) = q_mk wo tg a (q_mv L (q_last 0 (L 4)) 0, ba, di, go) := by unfold q_fr; rw [if_neg g1, if_pos g3b, if_pos g4b]; rfl
          refine lv_aload_n hx hb dX1_fresh_118 rfl (lv_at hl 2 rfl) ?_
          refine lv_aload_n hx hb dX1_fresh_119 rfl (lv_at hl 2 rfl) ?_
          refine lv_iconst (v := (nI 4)) hx hb dX1_fresh_120 (by decide) ?_
          have hFc := va_free (wc := (xw ad ci cz nx pv lo le wo di ba (nI cp) (nI tg) hi mi go)) hD hS hA [0, 1, 2, 3, 4, 5, 6, 7] rfl
          refine va_calli (va_runV (As := [.int (nI 4)]) (rest := [.ref (ad 0)]) ⟨hx, hb, hml, hown, hts⟩ (metX1_old l dC dI ci cz ad s.heap.size nx pv lo le wo di ba (nI cp) (nI tg) hi mi go hR (by decide) (by decide) hne9) (cwV 1 hts (lw_V q96 q98 qs4 q16 q99) rfl rfl rfl (by decide +kernel) ⟨Nat.le_of_ble_eq_true rfl, Nat.le_of_ble_eq_true rfl⟩) ⟨q_blind, va_recv hK hP (ci := 0) (q0 := 0) rfl rfl, fun U hU hW => q_ent hP hK hD hU hW⟩ rfl rfl hl.1 rfl (lv_room (Nat.le_of_ble_eq_true rfl)) dX1_fresh_121 ⟨Nat.le_of_ble_eq_true rfl, Nat.le_of_ble_eq_true rfl⟩) hS (fun q _ h => hFc q h) hFc (fun r1 u t H1 locs ht hvm hw hB hzq hkq hS => ?_)
          obtain ⟨hP1, hK1, hD1⟩ := hB
          rw [ht] at hP1
          have hP : va_P (dC, dI) vwCl (xw ad ci cz nx pv lo le wo di ba (nI cp) (nI tg) hi mi go) H1 := hP1
          have hD : va_D A (xw ad ci cz nx pv lo le wo di ba (nI cp) (nI tg) hi mi go) := hD1.weaken (fun k q _ h => hFc q.1 h)
          generalize H1 = H at hP hS ⊢
          have hw : r1 = nI (q_last 0 (L 4)) := hw
          subst hw
          refine lv_iconst (v := (nI 0)) hx hb dX1_fresh_124 (by decide) ?_
          have hFc := va_free (wc := (xw ad ci cz nx pv lo le wo di ba (nI cp) (nI tg) hi mi go)) hD hS hA [0, 1, 2, 3, 4, 5, 6, 7] rfl
          refine va_callv (va_runV (As := [.int (nI (q_last 0 (L 4))), .int (nI 0)]) (rest := []) ⟨hx, hb, hml, hown, hts⟩ (metX1_move l dC dI ci cz ad H.size nx pv lo le wo di ba (nI cp) (nI tg) hi mi go (a := q_last 0 (L 4)) hok hR h64 (show 0 ≤ 4 by decide)) (cwV 2 hts (lw_V q81 q83 qs1 q16 q84) rfl rfl rfl (by decide +kernel) ⟨Nat.le_of_ble_eq_true rfl, Nat.le_of_ble_eq_true rfl⟩) ⟨q_blind, va_recv hK hP (ci := 0) (q0 := 0) rfl rfl, fun U hU hW => q_ent hP hK hD hU hW⟩ rfl rfl hl.1 rfl (lv_room (Nat.le_of_ble_eq_true rfl)) dX1_fresh_125 ⟨Nat.le_of_ble_eq_true rfl, Nat.le_of_ble_eq_true rfl⟩) hS (fun q _ h => hFc q h) hFc (fun  u t H1 locs ht hvm hw hB hzq hkq hS => ?_)
          obtain ⟨nx1, pv1, lo1, le1⟩ := u
          obtain ⟨hP1, hK1, hD1⟩ := hB
          rw [ht] at hP1
          have hP : va_P (dC, dI) vwCl (xw ad ci cz nx1 pv1 lo1 le1 wo di ba (nI cp) (nI tg) hi mi go) H1 := hP1
          have hD : va_D A (xw ad ci cz nx1 pv1 lo1 le1 wo di ba (nI cp) (nI tg) hi mi go) := hD1.weaken (fun k q _ h => hFc q.1 h)
          have hw : x_rep (q_mv L (q_last 0 (L 4)) 0) nx1 pv1 lo1 le1 := hw
          generalize H1 = H at hP hS ⊢
          refine lv_aload_n hx hb dX1_fresh_128 rfl (lv_at hl 2 rfl) ?_
          refine lv_iload_n hx hb dX1_fresh_129 rfl (lv_at hl 3 rfl) ?_
          have hFc := va_free (wc := (xw ad ci cz nx1 pv1 lo1 le1 wo di ba (nI cp) (nI tg) hi mi go)) hD hS hA [0, 1, 2, 3, 4, 5, 6, 7] rfl
          refine va_callv (va_runV (As := [.int (nI a)]) (rest := []) ⟨hx, hb, hml, hown, hts⟩ (metX1_makeRoom l dC dI ci cz ad H.size nx1 pv1 lo1 le1 wo di ba (nI cp) hi mi go (tg := tg) (a := a) hok9 hw ha (show tg ≤ 24 by omega) (fun _ => h29)) (cwV 1 hts (lw_V q92 q94 qs3 q16 q95) rfl rfl rfl (by decide +kernel) ⟨Nat.le_of_ble_eq_true rfl, Nat.le_of_ble_eq_true rfl⟩) ⟨q_blind, va_recv hK hP (ci := 0) (q0 := 0) rfl rfl, fun U hU hW => q_ent hP hK hD hU hW⟩ rfl rfl hl.1 rfl (lv_room (Nat.le_of_ble_eq_true rfl)) dX1_fresh_130 ⟨Nat.le_of_ble_eq_true rfl, Nat.le_of_ble_eq_true rfl⟩) hS (fun q _ h => hFc q h) hFc (fun  u t H1 locs ht hvm hw2 hB hzq hkq hS => ?_)
          obtain ⟨nx2, pv2, lo2, le2⟩ := u
          obtain ⟨hP1, hK1, hD1⟩ := hB
          rw [ht] at hP1
          have hP : va_P (dC, dI) vwCl (xw ad ci cz nx2 pv2 lo2 le2 wo ((q_mk wo tg a (q_mv L (q_last 0 (L 4)) 0, ba, di, go)).2.2.1) ((q_mk wo tg a (q_mv L (q_last 0 (L 4)) 0, ba, di, go)).2.1) (nI cp) (nI tg) hi mi ((q_mk wo tg a (q_mv L (q_last 0 (L 4)) 0, ba, di, go)).2.2.2)) H1 := hP1
          have hD : va_D A (xw ad ci cz nx2 pv2 lo2 le2 wo ((q_mk wo tg a (q_mv L (q_last 0 (L 4)) 0, ba, di, go)).2.2.1) ((q_mk wo tg a (q_mv L (q_last 0 (L 4)) 0, ba, di, go)).2.1) (nI cp) (nI tg) hi mi ((q_mk wo tg a (q_mv L (q_last 0 (L 4)) 0, ba, di, go)).2.2.2)) := hD1.weaken (fun k q _ h => hFc q.1 h)
          have hw2 : x_rep (q_mk wo tg a (q_mv L (q_last 0 (L 4)) 0, ba, di, go)).1 nx2 pv2 lo2 le2 := hw2
          generalize H1 = H at hP hS ⊢
          exact W.vret hx hb hr (fun t ht hW => ⟨⟨(nx2, pv2, lo2, le2), rfl, (by rw [e9]; exact hw2), by rw [ht]; exact (by rw [e9]; exact hP), va_K.moved hW.alike hK, (by rw [e9]; exact hD)⟩, hS.F ht⟩) hS.2.2 dX1_fresh_133
    · exact absurd g1b g1
  · refine lv_aload_n hx hb dX1_fresh_38 rfl (lv_at hl 2 rfl) ?_
    refine va_get (D := (dC, dI)) (ci := 0) (v := .ref (ad 4)) (C := RX1) (T := TX1) (N := 12) hx hb hts in_X1 hown hK hP 0 rfl rfl 3 (by decide) (hts _ q33) (fun _ h9 => h9) rfl dX1_fresh_39 ?_
    refine lv_iconst (v := (nI 1)) hx hb dX1_fresh_42 (by decide) ?_
    refine q_iald (v := (nI ((L 1).length))) hx hb hK hP 4 0 rfl rfl (by decide) (by decide) (hR.2.1 1 (by decide) (by decide)) dX1_fresh_43 ?_
    refine lv_aload_n hx hb dX1_fresh_44 rfl (lv_at hl 2 rfl) ?_
    refine va_get (D := (dC, dI)) (ci := 0) (v := .int (nI cp)) (C := RX1) (T := TX1) (N := 12) hx hb hts in_X1 hown hK hP 0 rfl rfl 7 (by decide) (hts _ q37) (fun _ h9 => h9) rfl dX1_fresh_45 ?_
    refine q_icmp_ge (tgt := 69) hx hb (by omega) (by omega) dX1_fresh_48 (by decide) (fun g2 => ?_) (fun g2 => ?_)
    · refine lv_iload_n hx hb dX1_fresh_69 rfl (lv_at hl 1 rfl) ?_
      refine lv_aload_n hx hb dX1_fresh_70 rfl (lv_at hl 2 rfl) ?_
      refine va_get (D := (dC, dI)) (ci := 0) (v := .int (nI cp)) (C := RX1) (T := TX1) (N := 12) hx hb hts in_X1 hown hK hP 0 rfl rfl 7 (by decide) (hts _ q37) (fun _ h9 => h9) rfl dX1_fresh_71 ?_
      refine q_icmp_ne (tgt := 100) hx hb (by omega) (by omega) dX1_fresh_74 (by decide) (fun g1b => ?_) (fun g1b => ?_)
      · exact absurd g1 g1b
      · have g2b : ¬ (L 1).length < cp := by omega
        obtain ⟨hne9, h64⟩ := q_frB hI g1 g2b
        have e9 : (q_fr wo cp tg a (L, ba, di, go)) = q_ev wo (q_last 0 (L 1)) 0 (L, ba, di, go) := by unfold q_fr; rw [if_pos g1, if_neg g2b]
        refine lv_aload_n hx hb dX1_fresh_77 rfl (lv_at hl 2 rfl) ?_
        refine lv_iconst (v := (nI 1)) hx hb dX1_fresh_78 (by decide) ?_
        have hFc := va_free (wc := (xw ad ci cz nx pv lo le wo di ba (nI cp) (nI tg) hi mi go)) hD hS hA [0, 1, 2, 3, 4, 5, 6, 7] rfl
        refine va_calli (va_runV (As := [.int (nI 1)]) (rest := []) ⟨hx, hb, hml, hown, hts⟩ (metX1_old l dC dI ci cz ad s.heap.size nx pv lo le wo di ba (nI cp) (nI tg) hi mi go hR (by decide) (by decide) hne9) (cwV 1 hts (lw_V q96 q98 qs4 q16 q99) rfl rfl rfl (by decide +kernel) ⟨Nat.le_of_ble_eq_true rfl, Nat.le_of_ble_eq_true rfl⟩) ⟨q_blind, va_recv hK hP (ci := 0) (q0 := 0) rfl rfl, fun U hU hW => q_ent hP hK hD hU hW⟩ rfl rfl hl.1 rfl (lv_room (Nat.le_of_ble_eq_true rfl)) dX1_fresh_79 ⟨Nat.le_of_ble_eq_true rfl, Nat.le_of_ble_eq_true rfl⟩) hS (fun q _ h => hFc q h) hFc (fun r1 u t H1 locs ht hvm hw hB hzq hkq hS => ?_)
        obtain ⟨hP1, hK1, hD1⟩ := hB
        rw [ht] at hP1
        have hP : va_P (dC, dI) vwCl (xw ad ci cz nx pv lo le wo di ba (nI cp) (nI tg) hi mi go) H1 := hP1
        have hD : va_D A (xw ad ci cz nx pv lo le wo di ba (nI cp) (nI tg) hi mi go) := hD1.weaken (fun k q _ h => hFc q.1 h)
        generalize H1 = H at hP hS ⊢
        have hw : r1 = nI (q_last 0 (L 1)) := hw
        subst hw
        refine lv_istore (lv' := [(4, .int (nI (q_last 0 (L 1)))), (3, .int (nI (((((L 1).length) + ((L 3).length)) + ((L 2).length)) + ((L 4).length)))), (2, .int (nI (((L 1).length) + ((L 3).length)))), (0, .ref (ad 0)), (1, .int (nI a))]) hx hb dX1_fresh_82 hl (by decide) rfl (fun ls hl => ?_)
        refine lv_aload_n hx hb dX1_fresh_84 rfl (lv_at hl 3 rfl) ?_
        refine lv_iload hx hb dX1_fresh_85 (lv_at hl 0 rfl) ?_
        have hFc := va_free (wc := (xw ad ci cz nx pv lo le wo di ba (nI cp) (nI tg) hi mi go)) hD hS hA [0, 1, 2, 3, 4, 5, 6, 7] rfl
        refine va_callv (va_runV (As := [.int (nI (q_last 0 (L 1)))]) (rest := []) ⟨hx, hb, hml, hown, hts⟩ (metX1_go l dC dI ci cz ad H.size nx pv lo le wo di ba (nI cp) (nI tg) hi mi go h64) (cwV 1 hts (lw_V q100 q102 qs5 q16 q103) rfl rfl rfl (by decide +kernel) ⟨Nat.le_of_ble_eq_true rfl, Nat.le_of_ble_eq_true rfl⟩) ⟨q_blind, va_recv hK hP (ci := 0) (q0 := 0) rfl rfl, fun U hU hW => q_ent hP hK hD hU hW⟩ rfl rfl hl.1 rfl (lv_room (Nat.le_of_ble_eq_true rfl)) dX1_fresh_87 ⟨Nat.le_of_ble_eq_true rfl, Nat.le_of_ble_eq_true rfl⟩) hS (fun q _ h => hFc q h) hFc (fun  u t H1 locs ht hvm hw hB hzq hkq hS => ?_)
        obtain ⟨hP1, hK1, hD1⟩ := hB
        rw [ht] at hP1
        have hP : va_P (dC, dI) vwCl (xw ad ci cz nx pv lo le wo (upd di (q_last 0 (L 1)) (nI 0)) (q_gb wo ba di (q_last 0 (L 1))) (nI cp) (nI tg) hi mi (go + nI 1)) H1 := hP1
        have hD : va_D A (xw ad ci cz nx pv lo le wo (upd di (q_last 0 (L 1)) (nI 0)) (q_gb wo ba di (q_last 0 (L 1))) (nI cp) (nI tg) hi mi (go + nI 1)) := hD1.weaken (fun k q _ h => hFc q.1 h)
        generalize H1 = H at hP hS ⊢
        refine lv_aload_n hx hb dX1_fresh_90 rfl (lv_at hl 3 rfl) ?_
        refine lv_iload hx hb dX1_fresh_91 (lv_at hl 0 rfl) ?_
        refine lv_iconst (v := (nI 0)) hx hb dX1_fresh_93 (by decide) ?_
        have hFc := va_free (wc := (xw ad ci cz nx pv lo le wo (upd di (q_last 0 (L 1)) (nI 0)) (q_gb wo ba di (q_last 0 (L 1))) (nI cp) (nI tg) hi mi (go + nI 1))) hD hS hA [0, 1, 2, 3, 4, 5, 6, 7] rfl
        refine va_callv (va_runV (As := [.int (nI (q_last 0 (L 1))), .int (nI 0)]) (rest := []) ⟨hx, hb, hml, hown, hts⟩ (metX1_move l dC dI ci cz ad H.size nx pv lo le wo (upd di (q_last 0 (L 1)) (nI 0)) (q_gb wo ba di (q_last 0 (L 1))) (nI cp) (nI tg) hi mi (go + nI 1) (a := q_last 0 (L 1)) hok hR h64 (show 0 ≤ 4 by decide)) (cwV 2 hts (lw_V q81 q83 qs1 q16 q84) rfl rfl rfl (by decide +kernel) ⟨Nat.le_of_ble_eq_true rfl, Nat.le_of_ble_eq_true rfl⟩) ⟨q_blind, va_recv hK hP (ci := 0) (q0 := 0) rfl rfl, fun U hU hW => q_ent hP hK hD hU hW⟩ rfl rfl hl.1 rfl (lv_room (Nat.le_of_ble_eq_true rfl)) dX1_fresh_94 ⟨Nat.le_of_ble_eq_true rfl, Nat.le_of_ble_eq_true rfl⟩) hS (fun q _ h => hFc q h) hFc (fun  u t H1 locs ht hvm hw2 hB hzq hkq hS => ?_)
        obtain ⟨nx1, pv1, lo1, le1⟩ := u
        obtain ⟨hP1, hK1, hD1⟩ := hB
        rw [ht] at hP1
        have hP : va_P (dC, dI) vwCl (xw ad ci cz nx1 pv1 lo1 le1 wo (upd di (q_last 0 (L 1)) (nI 0)) (q_gb wo ba di (q_last 0 (L 1))) (nI cp) (nI tg) hi mi (go + nI 1)) H1 := hP1
        have hD : va_D A (xw ad ci cz nx1 pv1 lo1 le1 wo (upd di (q_last 0 (L 1)) (nI 0)) (q_gb wo ba di (q_last 0 (L 1))) (nI cp) (nI tg) hi mi (go + nI 1)) := hD1.weaken (fun k q _ h => hFc q.1 h)
        have hw2 : x_rep (q_mv L (q_last 0 (L 1)) 0) nx1 pv1 lo1 le1 := hw2
        generalize H1 = H at hP hS ⊢
        refine lv_goto (tgt := 133) hx hb dX1_fresh_97 (by decide) ?_
        exact W.vret hx hb hr (fun t ht hW => ⟨⟨(nx1, pv1, lo1, le1), rfl, (by rw [e9]; exact hw2), by rw [ht]; exact (by rw [e9]; exact hP), va_K.moved hW.alike hK, (by rw [e9]; exact hD)⟩, hS.F ht⟩) hS.2.2 dX1_fresh_133
    · obtain ⟨hne9, h64, hok9, h29⟩ := q_frA hI g1 g2
      have e9 : (q_fr wo cp tg a (L, ba, di, go)) = q_mk wo tg a (q_mv L (q_last 0 (L 3)) 0, ba, di, go) := by unfold q_fr; rw [if_pos g1, if_pos g2]; rfl
      refine lv_aload_n hx hb dX1_fresh_51 rfl (lv_at hl 2 rfl) ?_
      refine lv_aload_n hx hb dX1_fresh_52 rfl (lv_at hl 2 rfl) ?_
      refine lv_iconst (v := (nI 3)) hx hb dX1_fresh_53 (by decide) ?_
      have hFc := va_free (wc := (xw ad ci cz nx pv lo le wo di ba (nI cp) (nI tg) hi mi go)) hD hS hA [0, 1, 2, 3, 4, 5, 6, 7] rfl
      refine va_calli (va_runV (As := [.int (nI 3)]) (rest := [.ref (ad 0)]) ⟨hx, hb, hml, hown, hts⟩ (metX1_old l dC dI ci cz ad s.heap.size nx pv lo le wo di ba (nI cp) (nI tg) hi mi go hR (by decide) (by decide) hne9) (cwV 1 hts (lw_V q96 q98 qs4 q16 q99) rfl rfl rfl (by decide +kernel) ⟨Nat.le_of_ble_eq_true rfl, Nat.le_of_ble_eq_true rfl⟩) ⟨q_blind, va_recv hK hP (ci := 0) (q0 := 0) rfl rfl, fun U hU hW => q_ent hP hK hD hU hW⟩ rfl rfl hl.1 rfl (lv_room (Nat.le_of_ble_eq_true rfl)) dX1_fresh_54 ⟨Nat.le_of_ble_eq_true rfl, Nat.le_of_ble_eq_true rfl⟩) hS (fun q _ h => hFc q h) hFc (fun r1 u t H1 locs ht hvm hw hB hzq hkq hS => ?_)
      obtain ⟨hP1, hK1, hD1⟩ := hB
      rw [ht] at hP1
      have hP : va_P (dC, dI) vwCl (xw ad ci cz nx pv lo le wo di ba (nI cp) (nI tg) hi mi go) H1 := hP1
      have hD : va_D A (xw ad ci cz nx pv lo le wo di ba (nI cp) (nI tg) hi mi go) := hD1.weaken (fun k q _ h => hFc q.1 h)
      generalize H1 = H at hP hS ⊢
      have hw : r1 = nI (q_last 0 (L 3)) := hw
      subst hw
      refine lv_iconst (v := (nI 0)) hx hb dX1_fresh_57 (by decide) ?_
      have hFc := va_free (wc := (xw ad ci cz nx pv lo le wo di ba (nI cp) (nI tg) hi mi go)) hD hS hA [0, 1, 2, 3, 4, 5, 6, 7] rfl
      refine va_callv (va_runV (As := [.int (nI (q_last 0 (L 3))), .int (nI 0)]) (rest := []) ⟨hx, hb, hml, hown, hts⟩ (metX1_move l dC dI ci cz ad H.size nx pv lo le wo di ba (nI cp) (nI tg) hi mi go (a := q_last 0 (L 3)) hok hR h64 (show 0 ≤ 4 by decide)) (cwV 2 hts (lw_V q81 q83 qs1 q16 q84) rfl rfl rfl (by decide +kernel) ⟨Nat.le_of_ble_eq_true rfl, Nat.le_of_ble_eq_true rfl⟩) ⟨q_blind, va_recv hK hP (ci := 0) (q0 := 0) rfl rfl, fun U hU hW => q_ent hP hK hD hU hW⟩ rfl rfl hl.1 rfl (lv_room (Nat.le_of_ble_eq_true rfl)) dX1_fresh_58 ⟨Nat.le_of_ble_eq_true rfl, Nat.le_of_ble_eq_true rfl⟩) hS (fun q _ h => hFc q h) hFc (fun  u t H1 locs ht hvm hw hB hzq hkq hS => ?_)
      obtain ⟨nx1, pv1, lo1, le1⟩ := u
      obtain ⟨hP1, hK1, hD1⟩ := hB
      rw [ht] at hP1
      have hP : va_P (dC, dI) vwCl (xw ad ci cz nx1 pv1 lo1 le1 wo di ba (nI cp) (nI tg) hi mi go) H1 := hP1
      have hD : va_D A (xw ad ci cz nx1 pv1 lo1 le1 wo di ba (nI cp) (nI tg) hi mi go) := hD1.weaken (fun k q _ h => hFc q.1 h)
      have hw : x_rep (q_mv L (q_last 0 (L 3)) 0) nx1 pv1 lo1 le1 := hw
      generalize H1 = H at hP hS ⊢
      refine lv_aload_n hx hb dX1_fresh_61 rfl (lv_at hl 2 rfl) ?_
      refine lv_iload_n hx hb dX1_fresh_62 rfl (lv_at hl 3 rfl) ?_
      have hFc := va_free (wc := (xw ad ci cz nx1 pv1 lo1 le1 wo di ba (nI cp) (nI tg) hi mi go)) hD hS hA [0, 1, 2, 3, 4, 5, 6, 7] rfl
      refine va_callv (va_runV (As := [.int (nI a)]) (rest := []) ⟨hx, hb, hml, hown, hts⟩ (metX1_makeRoom l dC dI ci cz ad H.size nx1 pv1 lo1 le1 wo di ba (nI cp) hi mi go (tg := tg) (a := a) hok9 hw ha (show tg ≤ 24 by omega) (fun _ => h29)) (cwV 1 hts (lw_V q92 q94 qs3 q16 q95) rfl rfl rfl (by decide +kernel) ⟨Nat.le_of_ble_eq_true rfl, Nat.le_of_ble_eq_true rfl⟩) ⟨q_blind, va_recv hK hP (ci := 0) (q0 := 0) rfl rfl, fun U hU hW => q_ent hP hK hD hU hW⟩ rfl rfl hl.1 rfl (lv_room (Nat.le_of_ble_eq_true rfl)) dX1_fresh_63 ⟨Nat.le_of_ble_eq_true rfl, Nat.le_of_ble_eq_true rfl⟩) hS (fun q _ h => hFc q h) hFc (fun  u t H1 locs ht hvm hw2 hB hzq hkq hS => ?_)
      obtain ⟨nx2, pv2, lo2, le2⟩ := u
      obtain ⟨hP1, hK1, hD1⟩ := hB
      rw [ht] at hP1
      have hP : va_P (dC, dI) vwCl (xw ad ci cz nx2 pv2 lo2 le2 wo ((q_mk wo tg a (q_mv L (q_last 0 (L 3)) 0, ba, di, go)).2.2.1) ((q_mk wo tg a (q_mv L (q_last 0 (L 3)) 0, ba, di, go)).2.1) (nI cp) (nI tg) hi mi ((q_mk wo tg a (q_mv L (q_last 0 (L 3)) 0, ba, di, go)).2.2.2)) H1 := hP1
      have hD : va_D A (xw ad ci cz nx2 pv2 lo2 le2 wo ((q_mk wo tg a (q_mv L (q_last 0 (L 3)) 0, ba, di, go)).2.2.1) ((q_mk wo tg a (q_mv L (q_last 0 (L 3)) 0, ba, di, go)).2.1) (nI cp) (nI tg) hi mi ((q_mk wo tg a (q_mv L (q_last 0 (L 3)) 0, ba, di, go)).2.2.2)) := hD1.weaken (fun k q _ h => hFc q.1 h)
      have hw2 : x_rep (q_mk wo tg a (q_mv L (q_last 0 (L 3)) 0, ba, di, go)).1 nx2 pv2 lo2 le2 := hw2
      generalize H1 = H at hP hS ⊢
      refine lv_goto (tgt := 133) hx hb dX1_fresh_66 (by decide) ?_
      exact W.vret hx hb hr (fun t ht hW => ⟨⟨(nx2, pv2, lo2, le2), rfl, (by rw [e9]; exact hw2), by rw [ht]; exact (by rw [e9]; exact hP), va_K.moved hW.alike hK, (by rw [e9]; exact hD)⟩, hS.F ht⟩) hS.2.2 dX1_fresh_133
end
section
/-- request(a) -/
abbrev wsX1_request : List Cond := ws_ yX1_request cX1_request 3 none
set_option maxHeartbeats 4000000 in
set_option maxRecDepth 100000 in
theorem metX1_request (l : Launch) (dC : Nat → ClassId) (dI : Nat → Nat → Nat) (ci cz : ClassId) (ad : Nat → Nat) (sz : Nat) (nx pv lo le wo di ba : Nat → Int32) (hi mi go : Int32) {L : Nat → List Nat} {cp tg a : Nat} (hI : q_inv cp L di tg) (hR : x_rep L nx pv lo le) (ha : a < 64) : Met l yX1_request wsX1_request ({ frames := 4, cells := 0, slots := 0, locals := 91 }) (va_Pc [.ref (ad 0), .int (nI a)] (q_Pre dC dI ci cz sz (xw ad ci cz nx pv lo le wo di ba (nI cp) (nI tg) hi mi go))) (va_Qv (fun u : x_U => x_rep (q_rq cp a L wo ba di tg hi mi go).1 u.1 u.2.1 u.2.2.1 u.2.2.2) (xB dC dI ci cz (va_A (xw ad ci cz nx pv lo le wo di ba (nI cp) (nI tg) hi mi go) sz) ad ((q_rq cp a L wo ba di tg hi mi go).2.1) ((q_rq cp a L wo ba di tg hi mi go).2.2.2.1) ((q_rq cp a L wo ba di tg hi mi go).2.2.1) (nI cp) (nI (q_rq cp a L wo ba di tg hi mi go).2.2.2.2.1) ((q_rq cp a L wo ba di tg hi mi go).2.2.2.2.2.1) ((q_rq cp a L wo ba di tg hi mi go).2.2.2.2.2.2.1) ((q_rq cp a L wo ba di tg hi mi go).2.2.2.2.2.2.2)) (va_A (xw ad ci cz nx pv lo le wo di ba (nI cp) (nI tg) hi mi go) sz)) 0 0 (va_A (xw ad ci cz nx pv lo le wo di ba (nI cp) (nI tg) hi mi go) sz) := by
  refine Met.ofW (cc := cX1_request) (maxL := 3) (ret := none) (by decide) rfl ?_
  intro p e s m args below meth c s₁ B hml hv
  obtain ⟨rfl, hsz, hP, hK, hD0⟩ := hv
  have hx := B.exec
  have hb := B.bytes
  have hr := B.returns
  have hts := atoms_spec (ws := wsX1_request) B.pre
  have hts : ∀ w ∈ lw_all, w.before _ s = true := fun w h => hts w (List.mem_cons_of_mem _ h)
  have hown : s.vm.findClass RX1 = some m.cls := findClass_of_methodNamed B.named
  have hlocks := B.notSynchronized
  subst hsz
  have hD := hD0.self (sz := s.heap.size)
  generalize hAe : va_A (xw ad ci cz nx pv lo le wo di ba (nI cp) (nI tg) hi mi go) s.heap.size = A at hD ⊢
  have hA : ∀ q : Nat, s.heap.size ≤ q → A q := fun q h => by rw [← hAe]; exact Or.inr h
  have hS : va_S A s.heap s.heap [] := va_S.rf
  have hP : va_P (dC, dI) vwCl (xw ad ci cz nx pv lo le wo di ba (nI cp) (nI tg) hi mi go) s.heap := hP
  have hl := lv_entry ([.ref (ad 0), .int (nI a)]) (n := 3) (Nat.le_of_ble_eq_true rfl)
  rw [lg_entry_eq]
  generalize (lg_sl ([.ref (ad 0), .int (nI a)]) ++ List.replicate (3 - (lg_sl ([.ref (ad 0), .int (nI a)])).length) Slot.unset).toArray = ls at hl ⊢
  have hl : lv_has ls 3 [(0, .ref (ad 0)), (1, .int (nI a))] := hl
  have hok := hI.1.1
  have hcb := hI.2.1
  have hw4 := q_wh_le L a
  have h3 := q_L64 hok 3
  have h4 := q_L64 hok 4
  refine lv_aload_n hx hb dX1_request_0 rfl (lv_at hl 0 rfl) ?_
  refine va_get (D := (dC, dI)) (ci := 0) (v := .ref (ad 3)) (C := RX1) (T := TX1) (N := 12) hx hb hts in_X1 hown hK hP 0 rfl rfl 2 (by decide) (hts _ q32) (fun _ h9 => h9) rfl dX1_request_1 ?_
  refine lv_iload_n hx hb dX1_request_4 rfl (lv_at hl 1 rfl) ?_
  refine q_iald (v := (nI (q_wh L a))) hx hb hK hP 3 0 rfl rfl (by omega) (by decide) (hR.1 a ha) dX1_request_5 ?_
  refine lv_istore_n (lv' := [(2, .int (nI (q_wh L a))), (0, .ref (ad 0)), (1, .int (nI a))]) hx hb dX1_request_6 rfl hl (by decide) rfl (fun ls hl => ?_)
  have KH : (q_wh L a = 1 ∨ q_wh L a = 2) → W p l e (headSpec wsX1_request ({ frames := 4, cells := 0, slots := 0, locals := 91 })).room s m ([.ref (ad 0), .int (nI a)] : List Value).toArray below meth c s.heap [] 0 0 (MQ below (va_Qv (fun u : x_U => x_rep (q_rq cp a L wo ba di tg hi mi go).1 u.1 u.2.1 u.2.2.1 u.2.2.2) (xB dC dI ci cz A ad ((q_rq cp a L wo ba di tg hi mi go).2.1) ((q_rq cp a L wo ba di tg hi mi go).2.2.2.1) ((q_rq cp a L wo ba di tg hi mi go).2.2.1) (nI cp) (nI (q_rq cp a L wo ba di tg hi mi go).2.2.2.2.1) ((q_rq cp a L wo ba di tg hi mi go).2.2.2.2.2.1) ((q_rq cp a L wo ba di tg hi mi go).2.2.2.2.2.2.1) ((q_rq cp a L wo ba di tg hi mi go).2.2.2.2.2.2.2)) A) ([.ref (ad 0), .int (nI a)] : List Value).toArray s 0 0 A) (F0 m 17 ls []) := by
    intro hkk
    have e9 : (q_rq cp a L wo ba di tg hi mi go) = (q_mv L a 2, wo, ba, di, tg, hi + nI 1, mi, go) := if_pos hkk
    refine lv_aload_n hx hb dX1_request_17 rfl (lv_at hl 1 rfl) ?_
    refine lv_dup hx hb dX1_request_18 rfl ?_
    refine va_get (D := (dC, dI)) (ci := 0) (v := .int hi) (C := RX1) (T := TX1) (N := 12) hx hb hts in_X1 hown hK hP 0 rfl rfl 9 (by decide) (hts _ q39) (fun _ h9 => h9) rfl dX1_request_19 ?_
    refine lv_iconst (v := (nI 1)) hx hb dX1_request_22 (by decide) ?_
    refine lv_iadd hx hb dX1_request_23 ?_
    refine va_put (D := (dC, dI)) (ci := 0) (v := .int (hi + (nI 1))) (ty := .int) (C := RX1) (T := TX1) (N := 12) hx hb hts in_X1 tyX1 tyX1_ok nmX1 hown hK hP hD hS 0 rfl rfl 9 (by decide) (hts _ q39) (fun _ h9 => h9) rfl (by decide +kernel) rfl rfl (Nat.le_of_ble_eq_true rfl) dX1_request_24 (fun H locs hP hD hS => ?_)
    have hP : va_P (dC, dI) vwCl (xw ad ci cz nx pv lo le wo di ba (nI cp) (nI tg) (hi + (nI 1)) mi go) H := hP
    have hD : va_D A (xw ad ci cz nx pv lo le wo di ba (nI cp) (nI tg) (hi + (nI 1)) mi go) := hD
    refine lv_aload_n hx hb dX1_request_27 rfl (lv_at hl 1 rfl) ?_
    refine lv_iload_n hx hb dX1_request_28 rfl (lv_at hl 2 rfl) ?_
    refine lv_iconst (v := (nI 2)) hx hb dX1_request_29 (by decide) ?_
    have hFc := va_free (wc := (xw ad ci cz nx pv lo le wo di ba (nI cp) (nI tg) (hi + (nI 1)) mi go)) hD hS hA [0, 1, 2, 3, 4, 5, 6, 7] rfl
    refine va_callv (va_runV (As := [.int (nI a), .int (nI 2)]) (rest := []) ⟨hx, hb, hml, hown, hts⟩ (metX1_move l dC dI ci cz ad H.size nx pv lo le wo di ba (nI cp) (nI tg) (hi + (nI 1)) mi go hok hR ha (show 2 ≤ 4 by decide)) (cwV 2 hts (lw_V q81 q83 qs1 q16 q84) rfl rfl rfl (by decide +kernel) ⟨Nat.le_of_ble_eq_true rfl, Nat.le_of_ble_eq_true rfl⟩) ⟨q_blind, va_recv hK hP (ci := 0) (q0 := 0) rfl rfl, fun U hU hW => q_ent hP hK hD hU hW⟩ rfl rfl hl.1 rfl (lv_room (Nat.le_of_ble_eq_true rfl)) dX1_request_30 ⟨Nat.le_of_ble_eq_true rfl, Nat.le_of_ble_eq_true rfl⟩) hS (fun q _ h => hFc q h) hFc (fun  u t H1 locs ht hvm hw hB hzq hkq hS => ?_)
    obtain ⟨nx1, pv1, lo1, le1⟩ := u
    obtain ⟨hP1, hK1, hD1⟩ := hB
    rw [ht] at hP1
    have hP : va_P (dC, dI) vwCl (xw ad ci cz nx1 pv1 lo1 le1 wo di ba (nI cp) (nI tg) (hi + (nI 1)) mi go) H1 := hP1
    have hD : va_D A (xw ad ci cz nx1 pv1 lo1 le1 wo di ba (nI cp) (nI tg) (hi + (nI 1)) mi go) := hD1.weaken (fun k q _ h => hFc q.1 h)
    have hw : x_rep (q_mv L a 2) nx1 pv1 lo1 le1 := hw
    generalize H1 = H at hP hS ⊢
    exact W.vret hx hb hr (fun t ht hW => ⟨⟨(nx1, pv1, lo1, le1), rfl, (by rw [e9]; exact hw), by rw [ht]; exact (by rw [e9]; exact hP), va_K.moved hW.alike hK, (by rw [e9]; exact hD)⟩, hS.F ht⟩) hS.2.2 dX1_request_33
  have KT : ¬ (q_wh L a = 1 ∨ q_wh L a = 2) → ∀ (nx pv lo le : Nat → Int32) (H : Heap) (locs : List Loc) (ls : Array Slot), x_rep (q_ms cp a L wo ba di tg go).1 nx pv lo le → va_P (dC, dI) vwCl (xw ad ci cz nx pv lo le wo ((q_ms cp a L wo ba di tg go).2.2.1) ((q_ms cp a L wo ba di tg go).2.1) (nI cp) (nI (q_tg cp L tg (q_wh L a))) hi (mi + nI 1) ((q_ms cp a L wo ba di tg go).2.2.2)) H → va_D A (xw ad ci cz nx pv lo le wo ((q_ms cp a L wo ba di tg go).2.2.1) ((q_ms cp a L wo ba di tg go).2.1) (nI cp) (nI (q_tg cp L tg (q_wh L a))) hi (mi + nI 1) ((q_ms cp a L wo ba di tg go).2.2.2)) → va_S A s.heap H locs → lv_has ls 3 [(2, .int (nI (q_wh L a))), (0, .ref (ad 0)), (1, .int (nI a))] → W p l e (headSpec wsX1_request ({ frames := 4, cells := 0, slots := 0, locals := 91 })).room s m ([.ref (ad 0), .int (nI a)] : List Value).toArray below meth c H locs 0 0 (MQ below (va_Qv (fun u : x_U => x_rep (q_rq cp a L wo ba di tg hi mi go).1 u.1 u.2.1 u.2.2.1 u.2.2.2) (xB dC dI ci cz A ad ((q_rq cp a L wo ba di tg hi mi go).2.1) ((q_rq cp a L wo ba di tg hi mi go).2.2.2.1) ((q_rq cp a L wo ba di tg hi mi go).2.2.1) (nI cp) (nI (q_rq cp a L wo ba di tg hi mi go).2.2.2.2.1) ((q_rq cp a L wo ba di tg hi mi go).2.2.2.2.2.1) ((q_rq cp a L wo ba di tg hi mi go).2.2.2.2.2.2.1) ((q_rq cp a L wo ba di tg hi mi go).2.2.2.2.2.2.2)) A) ([.ref (ad 0), .int (nI a)] : List Value).toArray s 0 0 A) (F0 m 154 ls []) := by
    intro hkk nx pv lo le H locs ls hR hP hD hS hl
    have hms := q_ms_ok (wo := wo) (ba := ba) (go := go) hI (fun q => hkk (Or.inl q)) (fun q => hkk (Or.inr q))
    have e9 : (q_rq cp a L wo ba di tg hi mi go) = (q_mv (q_ms cp a L wo ba di tg go).1 a (if q_wh L a = 0 then 1 else 2), upd wo a ((q_ms cp a L wo ba di tg go).2.1 a), (q_ms cp a L wo ba di tg go).2.1, (q_ms cp a L wo ba di tg go).2.2.1, (q_tg cp L tg (q_wh L a)), hi, mi + nI 1, (q_ms cp a L wo ba di tg go).2.2.2) := if_neg hkk
    refine lv_aload_n hx hb dX1_request_154 rfl (lv_at hl 1 rfl) ?_
    refine lv_iload_n hx hb dX1_request_155 rfl (lv_at hl 2 rfl) ?_
    refine lv_iload_n hx hb dX1_request_156 rfl (lv_at hl 0 rfl) ?_
    refine q_if_ne (tgt := 164) hx hb (by omega) dX1_request_157 (by decide) (fun hz => ?_) (fun hz => ?_)
    · have et : (if q_wh L a = 0 then 1 else 2) = 2 := if_neg hz
      refine lv_iconst (v := (nI 2)) hx hb dX1_request_164 (by decide) ?_
      have hFc := va_free (wc := (xw ad ci cz nx pv lo le wo ((q_ms cp a L wo ba di tg go).2.2.1) ((q_ms cp a L wo ba di tg go).2.1) (nI cp) (nI (q_tg cp L tg (q_wh L a))) hi (mi + nI 1) ((q_ms cp a L wo ba di tg go).2.2.2))) hD hS hA [0, 1, 2, 3, 4, 5, 6, 7] rfl
      refine va_callv (va_runV (As := [.int (nI a), .int (nI 2)]) (rest := []) ⟨hx, hb, hml, hown, hts⟩ (metX1_move l dC dI ci cz ad H.size nx pv lo le wo ((q_ms cp a L wo ba di tg go).2.2.1) ((q_ms cp a L wo ba di tg go).2.1) (nI cp) (nI (q_tg cp L tg (q_wh L a))) hi (mi + nI 1) ((q_ms cp a L wo ba di tg go).2.2.2) hms.1.1 hR ha (show 2 ≤ 4 by decide)) (cwV 2 hts (lw_V q81 q83 qs1 q16 q84) rfl rfl rfl (by decide +kernel) ⟨Nat.le_of_ble_eq_true rfl, Nat.le_of_ble_eq_true rfl⟩) ⟨q_blind, va_recv hK hP (ci := 0) (q0 := 0) rfl rfl, fun U hU hW => q_ent hP hK hD hU hW⟩ rfl rfl hl.1 rfl (lv_room (Nat.le_of_ble_eq_true rfl)) dX1_request_165 ⟨Nat.le_of_ble_eq_true rfl, Nat.le_of_ble_eq_true rfl⟩) hS (fun q _ h => hFc q h) hFc (fun  u t H1 locs ht hvm hw hB hzq hkq hS => ?_)
      obtain ⟨nx1, pv1, lo1, le1⟩ := u
      obtain ⟨hP1, hK1, hD1⟩ := hB
      rw [ht] at hP1
      have hP : va_P (dC, dI) vwCl (xw ad ci cz nx1 pv1 lo1 le1 wo ((q_ms cp a L wo ba di tg go).2.2.1) ((q_ms cp a L wo ba di tg go).2.1) (nI cp) (nI (q_tg cp L tg (q_wh L a))) hi (mi + nI 1) ((q_ms cp a L wo ba di tg go).2.2.2)) H1 := hP1
      have hD : va_D A (xw ad ci cz nx1 pv1 lo1 le1 wo ((q_ms cp a L wo ba di tg go).2.2.1) ((q_ms cp a L wo ba di tg go).2.1) (nI cp) (nI (q_tg cp L tg (q_wh L a))) hi (mi + nI 1) ((q_ms cp a L wo ba di tg go).2.2.2)) := hD1.weaken (fun k q _ h => hFc q.1 h)
      have hw : x_rep (q_mv (q_ms cp a L wo ba di tg go).1 a 2) nx1 pv1 lo1 le1 := hw
      generalize H1 = H at hP hS ⊢
      refine lv_aload_n hx hb dX1_request_168 rfl (lv_at hl 1 rfl) ?_
      refine va_get (D := (dC, dI)) (ci := 0) (v := .ref (ad 5)) (C := RX1) (T := TX1) (N := 12) hx hb hts in_X1 hown hK hP 0 rfl rfl 4 (by decide) (hts _ q34) (fun _ h9 => h9) rfl dX1_request_169 ?_
      refine lv_iload_n hx hb dX1_request_172 rfl (lv_at hl 2 rfl) ?_
      refine lv_aload_n hx hb dX1_request_173 rfl (lv_at hl 1 rfl) ?_
      refine va_get (D := (dC, dI)) (ci := 0) (v := .ref (ad 7)) (C := RX1) (T := TX1) (N := 12) hx hb hts in_X1 hown hK hP 0 rfl rfl 6 (by decide) (hts _ q36) (fun _ h9 => h9) rfl dX1_request_174 ?_
      refine lv_iload_n hx hb dX1_request_177 rfl (lv_at hl 2 rfl) ?_
      refine q_iald (v := (((q_ms cp a L wo ba di tg go).2.1) a)) hx hb hK hP 7 0 rfl rfl (by omega) (by decide) rfl dX1_request_178 ?_
      refine q_iast (g := (upd wo a (((q_ms cp a L wo ba di tg go).2.1) a))) hx hb hK hP hD hS 5 0 rfl rfl (by omega) (by decide) rfl dX1_request_179 (fun H locs hP hD hS => ?_)
      have hP : va_P (dC, dI) vwCl (xw ad ci cz nx1 pv1 lo1 le1 (upd wo a (((q_ms cp a L wo ba di tg go).2.1) a)) ((q_ms cp a L wo ba di tg go).2.2.1) ((q_ms cp a L wo ba di tg go).2.1) (nI cp) (nI (q_tg cp L tg (q_wh L a))) hi (mi + nI 1) ((q_ms cp a L wo ba di tg go).2.2.2)) H := hP
      have hD : va_D A (xw ad ci cz nx1 pv1 lo1 le1 (upd wo a (((q_ms cp a L wo ba di tg go).2.1) a)) ((q_ms cp a L wo ba di tg go).2.2.1) ((q_ms cp a L wo ba di tg go).2.1) (nI cp) (nI (q_tg cp L tg (q_wh L a))) hi (mi + nI 1) ((q_ms cp a L wo ba di tg go).2.2.2)) := hD
      exact W.vret hx hb hr (fun t ht hW => ⟨⟨(nx1, pv1, lo1, le1), rfl, (by rw [e9, et]; exact hw), by rw [ht]; exact (by rw [e9]; exact hP), va_K.moved hW.alike hK, (by rw [e9]; exact hD)⟩, hS.F ht⟩) hS.2.2 dX1_request_180
    · have et : (if q_wh L a = 0 then 1 else 2) = 1 := if_pos hz
      refine lv_iconst (v := (nI 1)) hx hb dX1_request_160 (by decide) ?_
      refine lv_goto (tgt := 165) hx hb dX1_request_161 (by decide) ?_
      have hFc := va_free (wc := (xw ad ci cz nx pv lo le wo ((q_ms cp a L wo ba di tg go).2.2.1) ((q_ms cp a L wo ba di tg go).2.1) (nI cp) (nI (q_tg cp L tg (q_wh L a))) hi (mi + nI 1) ((q_ms cp a L wo ba di tg go).2.2.2))) hD hS hA [0, 1, 2, 3, 4, 5, 6, 7] rfl
      refine va_callv (va_runV (As := [.int (nI a), .int (nI 1)]) (rest := []) ⟨hx, hb, hml, hown, hts⟩ (metX1_move l dC dI ci cz ad H.size nx pv lo le wo ((q_ms cp a L wo ba di tg go).2.2.1) ((q_ms cp a L wo ba di tg go).2.1) (nI cp) (nI (q_tg cp L tg (q_wh L a))) hi (mi + nI 1) ((q_ms cp a L wo ba di tg go).2.2.2) hms.1.1 hR ha (show 1 ≤ 4 by decide)) (cwV 2 hts (lw_V q81 q83 qs1 q16 q84) rfl rfl rfl (by decide +kernel) ⟨Nat.le_of_ble_eq_true rfl, Nat.le_of_ble_eq_true rfl⟩) ⟨q_blind, va_recv hK hP (ci := 0) (q0 := 0) rfl rfl, fun U hU hW => q_ent hP hK hD hU hW⟩ rfl rfl hl.1 rfl (lv_room (Nat.le_of_ble_eq_true rfl)) dX1_request_165 ⟨Nat.le_of_ble_eq_true rfl, Nat.le_of_ble_eq_true rfl⟩) hS (fun q _ h => hFc q h) hFc (fun  u t H1 locs ht hvm hw hB hzq hkq hS => ?_)
      obtain ⟨nx1, pv1, lo1, le1⟩ := u
      obtain ⟨hP1, hK1, hD1⟩ := hB
      rw [ht] at hP1
      have hP : va_P (dC, dI) vwCl (xw ad ci cz nx1 pv1 lo1 le1 wo ((q_ms cp a L wo ba di tg go).2.2.1) ((q_ms cp a L wo ba di tg go).2.1) (nI cp) (nI (q_tg cp L tg (q_wh L a))) hi (mi + nI 1) ((q_ms cp a L wo ba di tg go).2.2.2)) H1 := hP1
      have hD : va_D A (xw ad ci cz nx1 pv1 lo1 le1 wo ((q_ms cp a L wo ba di tg go).2.2.1) ((q_ms cp a L wo ba di tg go).2.1) (nI cp) (nI (q_tg cp L tg (q_wh L a))) hi (mi + nI 1) ((q_ms cp a L wo ba di tg go).2.2.2)) := hD1.weaken (fun k q _ h => hFc q.1 h)
      have hw : x_rep (q_mv (q_ms cp a L wo ba di tg go).1 a 1) nx1 pv1 lo1 le1 := hw
      generalize H1 = H at hP hS ⊢
      refine lv_aload_n hx hb dX1_request_168 rfl (lv_at hl 1 rfl) ?_
      refine va_get (D := (dC, dI)) (ci := 0) (v := .ref (ad 5)) (C := RX1) (T := TX1) (N := 12) hx hb hts in_X1 hown hK hP 0 rfl rfl 4 (by decide) (hts _ q34) (fun _ h9 => h9) rfl dX1_request_169 ?_
      refine lv_iload_n hx hb dX1_request_172 rfl (lv_at hl 2 rfl) ?_
      refine lv_aload_n hx hb dX1_request_173 rfl (lv_at hl 1 rfl) ?_
      refine va_get (D := (dC, dI)) (ci := 0) (v := .ref (ad 7)) (C := RX1) (T := TX1) (N := 12) hx hb hts in_X1 hown hK hP 0 rfl rfl 6 (by decide) (hts _ q36) (fun _ h9 => h9) rfl dX1_request_174 ?_
      refine lv_iload_n hx hb dX1_request_177 rfl (lv_at hl 2 rfl) ?_
      refine q_iald (v := (((q_ms cp a L wo ba di tg go).2.1) a)) hx hb hK hP 7 0 rfl rfl (by omega) (by decide) rfl dX1_request_178 ?_
      refine q_iast (g := (upd wo a (((q_ms cp a L wo ba di tg go).2.1) a))) hx hb hK hP hD hS 5 0 rfl rfl (by omega) (by decide) rfl dX1_request_179 (fun H locs hP hD hS => ?_)
      have hP : va_P (dC, dI) vwCl (xw ad ci cz nx1 pv1 lo1 le1 (upd wo a (((q_ms cp a L wo ba di tg go).2.1) a)) ((q_ms cp a L wo ba di tg go).2.2.1) ((q_ms cp a L wo ba di tg go).2.1) (nI cp) (nI (q_tg cp L tg (q_wh L a))) hi (mi + nI 1) ((q_ms cp a L wo ba di tg go).2.2.2)) H := hP
      have hD : va_D A (xw ad ci cz nx1 pv1 lo1 le1 (upd wo a (((q_ms cp a L wo ba di tg go).2.1) a)) ((q_ms cp a L wo ba di tg go).2.2.1) ((q_ms cp a L wo ba di tg go).2.1) (nI cp) (nI (q_tg cp L tg (q_wh L a))) hi (mi + nI 1) ((q_ms cp a L wo ba di tg go).2.2.2)) := hD
      exact W.vret hx hb hr (fun t ht hW => ⟨⟨(nx1, pv1, lo1, le1), rfl, (by rw [e9, et]; exact hw), by rw [ht]; exact (by rw [e9]; exact hP), va_K.moved hW.alike hK, (by rw [e9]; exact hD)⟩, hS.F ht⟩) hS.2.2 dX1_request_180
  refine lv_iload_n hx hb dX1_request_7 rfl (lv_at hl 0 rfl) ?_
  refine lv_iconst (v := (nI 1)) hx hb dX1_request_8 (by decide) ?_
  refine q_icmp_eq (tgt := 17) hx hb (by omega) (by omega) dX1_request_9 (by decide) (fun hk1 => ?_) (fun hk1 => ?_)
  · exact KH (Or.inl hk1)
  · refine lv_iload_n hx hb dX1_request_12 rfl (lv_at hl 0 rfl) ?_
    refine lv_iconst (v := (nI 2)) hx hb dX1_request_13 (by decide) ?_
    refine q_icmp_ne (tgt := 34) hx hb (by omega) (by omega) dX1_request_14 (by decide) (fun hk2 => ?_) (fun hk2 => ?_)
    · have hkk : ¬ (q_wh L a = 1 ∨ q_wh L a = 2) := fun q => by rcases q with q | q; exact hk1 q; exact hk2 q
      refine lv_aload_n hx hb dX1_request_34 rfl (lv_at hl 1 rfl) ?_
      refine lv_dup hx hb dX1_request_35 rfl ?_
      refine va_get (D := (dC, dI)) (ci := 0) (v := .int mi) (C := RX1) (T := TX1) (N := 12) hx hb hts in_X1 hown hK hP 0 rfl rfl 10 (by decide) (hts _ q40) (fun _ h9 => h9) rfl dX1_request_36 ?_
      refine lv_iconst (v := (nI 1)) hx hb dX1_request_39 (by decide) ?_
      refine lv_iadd hx hb dX1_request_40 ?_
      refine va_put (D := (dC, dI)) (ci := 0) (v := .int (mi + (nI 1))) (ty := .int) (C := RX1) (T := TX1) (N := 12) hx hb hts in_X1 tyX1 tyX1_ok nmX1 hown hK hP hD hS 0 rfl rfl 10 (by decide) (hts _ q40) (fun _ h9 => h9) rfl (by decide +kernel) rfl rfl (Nat.le_of_ble_eq_true rfl) dX1_request_41 (fun H locs hP hD hS => ?_)
      have hP : va_P (dC, dI) vwCl (xw ad ci cz nx pv lo le wo di ba (nI cp) (nI tg) hi (mi + (nI 1)) go) H := hP
      have hD : va_D A (xw ad ci cz nx pv lo le wo di ba (nI cp) (nI tg) hi (mi + (nI 1)) go) := hD
      refine lv_iload_n hx hb dX1_request_44 rfl (lv_at hl 0 rfl) ?_
      refine lv_iconst (v := (nI 3)) hx hb dX1_request_45 (by decide) ?_
      refine q_icmp_ne (tgt := 100) hx hb (by omega) (by omega) dX1_request_46 (by decide) (fun hk3 => ?_) (fun hk3 => ?_)
      · refine lv_iload_n hx hb dX1_request_100 rfl (lv_at hl 0 rfl) ?_
        refine lv_iconst (v := (nI 4)) hx hb dX1_request_101 (by decide) ?_
        refine q_icmp_ne (tgt := 149) hx hb (by omega) (by omega) dX1_request_102 (by decide) (fun hk4 => ?_) (fun hk4 => ?_)
        · have h0 : q_wh L a = 0 := by omega
          refine lv_aload_n hx hb dX1_request_149 rfl (lv_at hl 1 rfl) ?_
          refine lv_iload_n hx hb dX1_request_150 rfl (lv_at hl 2 rfl) ?_
          have hFc := va_free (wc := (xw ad ci cz nx pv lo le wo di ba (nI cp) (nI tg) hi (mi + (nI 1)) go)) hD hS hA [0, 1, 2, 3, 4, 5, 6, 7] rfl
          refine va_callv (va_runV (As := [.int (nI a)]) (rest := []) ⟨hx, hb, hml, hown, hts⟩ (metX1_fresh l dC dI ci cz ad H.size nx pv lo le wo di ba hi (mi + (nI 1)) go (a := a) hI hR ha) (cwV 1 hts (lw_V q104 q106 qs6 q16 q107) rfl rfl rfl (by decide +kernel) ⟨Nat.le_of_ble_eq_true rfl, Nat.le_of_ble_eq_true rfl⟩) ⟨q_blind, va_recv hK hP (ci := 0) (q0 := 0) rfl rfl, fun U hU hW => q_ent hP hK hD hU hW⟩ rfl rfl hl.1 rfl (lv_room (Nat.le_of_ble_eq_true rfl)) dX1_request_151 ⟨Nat.le_of_ble_eq_true rfl, Nat.le_of_ble_eq_true rfl⟩) hS (fun q _ h => hFc q h) hFc (fun  u t H1 locs ht hvm hw2 hB hzq hkq hS => ?_)
          obtain ⟨nx2, pv2, lo2, le2⟩ := u
          obtain ⟨hP1, hK1, hD1⟩ := hB
          rw [ht] at hP1
          have hP : va_P (dC, dI) vwCl (xw ad ci cz nx2 pv2 lo2 le2 wo ((q_fr wo cp tg a (L, ba, di, go)).2.2.1) ((q_fr wo cp tg a (L, ba, di, go)).2.1) (nI cp) (nI tg) hi (mi + (nI 1)) ((q_fr wo cp tg a (L, ba, di, go)).2.2.2)) H1 := hP1
          have hD : va_D A (xw ad ci cz nx2 pv2 lo2 le2 wo ((q_fr wo cp tg a (L, ba, di, go)).2.2.1) ((q_fr wo cp tg a (L, ba, di, go)).2.1) (nI cp) (nI tg) hi (mi + (nI 1)) ((q_fr wo cp tg a (L, ba, di, go)).2.2.2)) := hD1.weaken (fun k q _ h => hFc q.1 h)
          have hw2 : x_rep (q_fr wo cp tg a (L, ba, di, go)).1 nx2 pv2 lo2 le2 := hw2
          generalize H1 = H at hP hS ⊢
          have ems : (q_ms cp a L wo ba di tg go) = (q_fr wo cp tg a (L, ba, di, go)) := if_pos h0
          have etg : (q_tg cp L tg (q_wh L a)) = tg := by rw [h0]; rfl
          have hP : va_P (dC, dI) vwCl (xw ad ci cz nx2 pv2 lo2 le2 wo ((q_fr wo cp tg a (L, ba, di, go)).2.2.1) ((q_fr wo cp tg a (L, ba, di, go)).2.1) (nI cp) (nI (q_tg cp L tg (q_wh L a))) hi (mi + (nI 1)) ((q_fr wo cp tg a (L, ba, di, go)).2.2.2)) H := by rw [etg]; exact hP
          have hD : va_D A (xw ad ci cz nx2 pv2 lo2 le2 wo ((q_fr wo cp tg a (L, ba, di, go)).2.2.1) ((q_fr wo cp tg a (L, ba, di, go)).2.1) (nI cp) (nI (q_tg cp L tg (q_wh L a))) hi (mi + (nI 1)) ((q_fr wo cp tg a (L, ba, di, go)).2.2.2)) := by rw [etg]; exact hD
          exact KT hkk nx2 pv2 lo2 le2 H locs ls (by rw [ems]; exact hw2) (by rw [ems]; exact hP) (by rw [ems]; exact hD) hS hl
        · have h49 := q_rq4 hI hk4
          refine lv_aload_n hx hb dX1_request_105 rfl (lv_at hl 1 rfl) ?_
          refine lv_dup hx hb dX1_request_106 rfl ?_
          refine va_get (D := (dC, dI)) (ci := 0) (v := .int (nI tg)) (C := RX1) (T := TX1) (N := 12) hx hb hts in_X1 hown hK hP 0 rfl rfl 8 (by decide) (hts _ q38) (fun _ h9 => h9) rfl dX1_request_107 ?_
          refine lv_aload_n hx hb dX1_request_110 rfl (lv_at hl 1 rfl) ?_
          refine va_get (D := (dC, dI)) (ci := 0) (v := .ref (ad 4)) (C := RX1) (T := TX1) (N := 12) hx hb hts in_X1 hown hK hP 0 rfl rfl 3 (by decide) (hts _ q33) (fun _ h9 => h9) rfl dX1_request_111 ?_
          refine lv_iconst (v := (nI 3)) hx hb dX1_request_114 (by decide) ?_
          refine q_iald (v := (nI ((L 3).length))) hx hb hK hP 4 0 rfl rfl (by decide) (by decide) (hR.2.1 3 (by decide) (by decide)) dX1_request_115 ?_
          refine lv_aload_n hx hb dX1_request_116 rfl (lv_at hl 1 rfl) ?_
          refine va_get (D := (dC, dI)) (ci := 0) (v := .ref (ad 4)) (C := RX1) (T := TX1) (N := 12) hx hb hts in_X1 hown hK hP 0 rfl rfl 3 (by decide) (hts _ q33) (fun _ h9 => h9) rfl dX1_request_117 ?_
          refine lv_iconst (v := (nI 4)) hx hb dX1_request_120 (by decide) ?_
          refine q_iald (v := (nI ((L 4).length))) hx hb hK hP 4 0 rfl rfl (by decide) (by decide) (hR.2.1 4 (by decide) (by decide)) dX1_request_121 ?_
          refine va_calli (va_runS (As := [.int (nI ((L 3).length)), .int (nI ((L 4).length))]) (rest := [.int (nI tg), .ref (ad 0)]) ⟨hx, hb, hml, hown, hts⟩ (metX1_atLeastOne l (L 3).length (L 4).length (by omega) h49.1 (by omega)) (va_cwS 2 hts (lw_S q89 q90 q16 q91) rfl rfl rfl (by decide +kernel) ⟨Nat.le_of_ble_eq_true rfl, Nat.le_of_ble_eq_true rfl⟩) ⟨fun a U g mk q => q, fun U hU hW => ⟨rfl, trivial⟩⟩ rfl rfl hl.1 rfl (lv_room (Nat.le_of_ble_eq_true rfl)) dX1_request_122 ⟨Nat.le_of_ble_eq_true rfl, Nat.le_of_ble_eq_true rfl⟩) hS (fun q _ h => h.elim) (fun q h => h.elim) (fun r1 u t H1 locs ht hvm hw hB hzq hkq hS => ?_)
          have hP : va_P (dC, dI) vwCl (xw ad ci cz nx pv lo le wo di ba (nI cp) (nI tg) hi (mi + (nI 1)) go) H1 := hP.kept (fun k q hq => hkq q.1 ((hP k q hq).lt) (fun h => h))
          generalize H1 = H at hP hS ⊢
          have hw : r1 = nI (max 1 ((L 3).length / (L 4).length)) := hw
          have hmx : max 1 ((L 3).length / (L 4).length) ≤ 64 := Nat.max_le.mpr ⟨by decide, Nat.le_trans (Nat.div_le_self _ _) h3⟩
          obtain ⟨d9, ed9⟩ : ∃ d, d = max 1 ((L 3).length / (L 4).length) := ⟨_, rfl⟩
          rw [← ed9] at hw hmx
          subst hw
          refine lv_isub hx hb dX1_request_125 ?_
          refine va_put (D := (dC, dI)) (ci := 0) (v := .int ((nI tg) - (nI d9))) (ty := .int) (C := RX1) (T := TX1) (N := 12) hx hb hts in_X1 tyX1 tyX1_ok nmX1 hown hK hP hD hS 0 rfl rfl 8 (by decide) (hts _ q38) (fun _ h9 => h9) rfl (by decide +kernel) rfl rfl (Nat.le_of_ble_eq_true rfl) dX1_request_126 (fun H locs hP hD hS => ?_)
          have hP : va_P (dC, dI) vwCl (xw ad ci cz nx pv lo le wo di ba (nI cp) ((nI tg) - (nI d9)) hi (mi + (nI 1)) go) H := hP
          have hD : va_D A (xw ad ci cz nx pv lo le wo di ba (nI cp) ((nI tg) - (nI d9)) hi (mi + (nI 1)) go) := hD
          refine lv_aload_n hx hb dX1_request_129 rfl (lv_at hl 1 rfl) ?_
          refine va_get (D := (dC, dI)) (ci := 0) (v := .int ((nI tg) - (nI d9))) (C := RX1) (T := TX1) (N := 12) hx hb hts in_X1 hown hK hP 0 rfl rfl 8 (by decide) (hts _ q38) (fun _ h9 => h9) rfl dX1_request_130 ?_
          refine lv_if_ge (tgt := 141) hx hb dX1_request_133 (by decide) (fun hge => ?_) (fun hge => ?_)
          · have hle : d9 ≤ tg := by
              rcases Nat.lt_or_ge tg d9 with q | q
              · have g1 := q_ltI.mp (pk_sneg (by omega) q)
                have g2 := q_leI.mp hge
                omega
              · exact q
            have etg : (q_tg cp L tg (q_wh L a)) = tg - d9 := by rw [hk4, ed9]; rfl
            have hP : va_P (dC, dI) vwCl (xw ad ci cz nx pv lo le wo di ba (nI cp) (nI (q_tg cp L tg (q_wh L a))) hi (mi + (nI 1)) go) H := by rw [etg, ← pk_sub hle]; exact hP
            have hD : va_D A (xw ad ci cz nx pv lo le wo di ba (nI cp) (nI (q_tg cp L tg (q_wh L a))) hi (mi + (nI 1)) go) := by rw [etg, ← pk_sub hle]; exact hD
            refine lv_aload_n hx hb dX1_request_141 rfl (lv_at hl 1 rfl) ?_
            refine lv_iload_n hx hb dX1_request_142 rfl (lv_at hl 2 rfl) ?_
            have hFc := va_free (wc := (xw ad ci cz nx pv lo le wo di ba (nI cp) (nI (q_tg cp L tg (q_wh L a))) hi (mi + (nI 1)) go)) hD hS hA [0, 1, 2, 3, 4, 5, 6, 7] rfl
            refine va_callv (va_runV (As := [.int (nI a)]) (rest := []) ⟨hx, hb, hml, hown, hts⟩ (metX1_makeRoom l dC dI ci cz ad H.size nx pv lo le wo di ba (nI cp) hi (mi + (nI 1)) go (tg := (q_tg cp L tg (q_wh L a))) (a := a) hok hR ha (Nat.le_trans (q_tg_le hcb.2.2) hcb.2.1) (fun q => h49.2 (by rw [hk4] at q; exact q))) (cwV 1 hts (lw_V q92 q94 qs3 q16 q95) rfl rfl rfl (by decide +kernel) ⟨Nat.le_of_ble_eq_true rfl, Nat.le_of_ble_eq_true rfl⟩) ⟨q_blind, va_recv hK hP (ci := 0) (q0 := 0) rfl rfl, fun U hU hW => q_ent hP hK hD hU hW⟩ rfl rfl hl.1 rfl (lv_room (Nat.le_of_ble_eq_true rfl)) dX1_request_143 ⟨Nat.le_of_ble_eq_true rfl, Nat.le_of_ble_eq_true rfl⟩) hS (fun q _ h => hFc q h) hFc (fun  u t H1 locs ht hvm hw2 hB hzq hkq hS => ?_)
            obtain ⟨nx2, pv2, lo2, le2⟩ := u
            obtain ⟨hP1, hK1, hD1⟩ := hB
            rw [ht] at hP1
            have hP : va_P (dC, dI) vwCl (xw ad ci cz nx2 pv2 lo2 le2 wo ((q_mk wo (q_tg cp L tg (q_wh L a)) a (L, ba, di, go)).2.2.1) ((q_mk wo (q_tg cp L tg (q_wh L a)) a (L, ba, di, go)).2.1) (nI cp) (nI (q_tg cp L tg (q_wh L a))) hi (mi + (nI 1)) ((q_mk wo (q_tg cp L tg (q_wh L a)) a (L, ba, di, go)).2.2.2)) H1 := hP1
            have hD : va_D A (xw ad ci cz nx2 pv2 lo2 le2 wo ((q_mk wo (q_tg cp L tg (q_wh L a)) a (L, ba, di, go)).2.2.1) ((q_mk wo (q_tg cp L tg (q_wh L a)) a (L, ba, di, go)).2.1) (nI cp) (nI (q_tg cp L tg (q_wh L a))) hi (mi + (nI 1)) ((q_mk wo (q_tg cp L tg (q_wh L a)) a (L, ba, di, go)).2.2.2)) := hD1.weaken (fun k q _ h => hFc q.1 h)
            have hw2 : x_rep (q_mk wo (q_tg cp L tg (q_wh L a)) a (L, ba, di, go)).1 nx2 pv2 lo2 le2 := hw2
            generalize H1 = H at hP hS ⊢
            have ems : (q_ms cp a L wo ba di tg go) = (q_mk wo (q_tg cp L tg (q_wh L a)) a (L, ba, di, go)) := if_neg (by omega)
            refine lv_goto (tgt := 154) hx hb dX1_request_146 (by decide) ?_
            exact KT hkk nx2 pv2 lo2 le2 H locs ls (by rw [ems]; exact hw2) (by rw [ems]; exact hP) (by rw [ems]; exact hD) hS hl
          · have hle : tg < d9 := by
              rcases Nat.lt_or_ge tg d9 with q | q
              · exact q
              · exact absurd (by rw [pk_sub q]; exact nI_pos' (by omega)) hge
            have etg : (q_tg cp L tg (q_wh L a)) = 0 := by
              rw [hk4]
              show tg - max 1 ((L 3).length / (L 4).length) = 0
              rw [← ed9]
              omega
            refine lv_aload_n hx hb dX1_request_136 rfl (lv_at hl 1 rfl) ?_
            refine lv_iconst (v := (nI 0)) hx hb dX1_request_137 (by decide) ?_
            refine va_put (D := (dC, dI)) (ci := 0) (v := .int (nI 0)) (ty := .int) (C := RX1) (T := TX1) (N := 12) hx hb hts in_X1 tyX1 tyX1_ok nmX1 hown hK hP hD hS 0 rfl rfl 8 (by decide) (hts _ q38) (fun _ h9 => h9) rfl (by decide +kernel) rfl rfl (Nat.le_of_ble_eq_true rfl) dX1_request_138 (fun H locs hP hD hS => ?_)
            have hP : va_P (dC, dI) vwCl (xw ad ci cz nx pv lo le wo di ba (nI cp) (nI 0) hi (mi + (nI 1)) go) H := hP
            have hD : va_D A (xw ad ci cz nx pv lo le wo di ba (nI cp) (nI 0) hi (mi + (nI 1)) go) := hD
            have hP : va_P (dC, dI) vwCl (xw ad ci cz nx pv lo le wo di ba (nI cp) (nI (q_tg cp L tg (q_wh L a))) hi (mi + (nI 1)) go) H := by rw [etg]; exact hP
            have hD : va_D A (xw ad ci cz nx pv lo le wo di ba (nI cp) (nI (q_tg cp L tg (q_wh L a))) hi (mi + (nI 1)) go) := by rw [etg]; exact hD
            refine lv_aload_n hx hb dX1_request_141 rfl (lv_at hl 1 rfl) ?_
            refine lv_iload_n hx hb dX1_request_142 rfl (lv_at hl 2 rfl) ?_
            have hFc := va_free (wc := (xw ad ci cz nx pv lo le wo di ba (nI cp) (nI (q_tg cp L tg (q_wh L a))) hi (mi + (nI 1)) go)) hD hS hA [0, 1, 2, 3, 4, 5, 6, 7] rfl
            refine va_callv (va_runV (As := [.int (nI a)]) (rest := []) ⟨hx, hb, hml, hown, hts⟩ (metX1_makeRoom l dC dI ci cz ad H.size nx pv lo le wo di ba (nI cp) hi (mi + (nI 1)) go (tg := (q_tg cp L tg (q_wh L a))) (a := a) hok hR ha (Nat.le_trans (q_tg_le hcb.2.2) hcb.2.1) (fun q => h49.2 (by rw [hk4] at q; exact q))) (cwV 1 hts (lw_V q92 q94 qs3 q16 q95) rfl rfl rfl (by decide +kernel) ⟨Nat.le_of_ble_eq_true rfl, Nat.le_of_ble_eq_true rfl⟩) ⟨q_blind, va_recv hK hP (ci := 0) (q0 := 0) rfl rfl, fun U hU hW => q_ent hP hK hD hU hW⟩ rfl rfl hl.1 rfl (lv_room (Nat.le_of_ble_eq_true rfl)) dX1_request_143 ⟨Nat.le_of_ble_eq_true rfl, Nat.le_of_ble_eq_true rfl⟩) hS (fun q _ h => hFc q h) hFc (fun  u t H1 locs ht hvm hw2 hB hzq hkq hS => ?_)
            obtain ⟨nx2, pv2, lo2, le2⟩ := u
            obtain ⟨hP1, hK1, hD1⟩ := hB
            rw [ht] at hP1
            have hP : va_P (dC, dI) vwCl (xw ad ci cz nx2 pv2 lo2 le2 wo ((q_mk wo (q_tg cp L tg (q_wh L a)) a (L, ba, di, go)).2.2.1) ((q_mk wo (q_tg cp L tg (q_wh L a)) a (L, ba, di, go)).2.1) (nI cp) (nI (q_tg cp L tg (q_wh L a))) hi (mi + (nI 1)) ((q_mk wo (q_tg cp L tg (q_wh L a)) a (L, ba, di, go)).2.2.2)) H1 := hP1
            have hD : va_D A (xw ad ci cz nx2 pv2 lo2 le2 wo ((q_mk wo (q_tg cp L tg (q_wh L a)) a (L, ba, di, go)).2.2.1) ((q_mk wo (q_tg cp L tg (q_wh L a)) a (L, ba, di, go)).2.1) (nI cp) (nI (q_tg cp L tg (q_wh L a))) hi (mi + (nI 1)) ((q_mk wo (q_tg cp L tg (q_wh L a)) a (L, ba, di, go)).2.2.2)) := hD1.weaken (fun k q _ h => hFc q.1 h)
            have hw2 : x_rep (q_mk wo (q_tg cp L tg (q_wh L a)) a (L, ba, di, go)).1 nx2 pv2 lo2 le2 := hw2
            generalize H1 = H at hP hS ⊢
            have ems : (q_ms cp a L wo ba di tg go) = (q_mk wo (q_tg cp L tg (q_wh L a)) a (L, ba, di, go)) := if_neg (by omega)
            refine lv_goto (tgt := 154) hx hb dX1_request_146 (by decide) ?_
            exact KT hkk nx2 pv2 lo2 le2 H locs ls (by rw [ems]; exact hw2) (by rw [ems]; exact hP) (by rw [ems]; exact hD) hS hl
      · have h39 := q_rq3 hI hk3
        refine lv_aload_n hx hb dX1_request_49 rfl (lv_at hl 1 rfl) ?_
        refine lv_dup hx hb dX1_request_50 rfl ?_
        refine va_get (D := (dC, dI)) (ci := 0) (v := .int (nI tg)) (C := RX1) (T := TX1) (N := 12) hx hb hts in_X1 hown hK hP 0 rfl rfl 8 (by decide) (hts _ q38) (fun _ h9 => h9) rfl dX1_request_51 ?_
        refine lv_aload_n hx hb dX1_request_54 rfl (lv_at hl 1 rfl) ?_
        refine va_get (D := (dC, dI)) (ci := 0) (v := .ref (ad 4)) (C := RX1) (T := TX1) (N := 12) hx hb hts in_X1 hown hK hP 0 rfl rfl 3 (by decide) (hts _ q33) (fun _ h9 => h9) rfl dX1_request_55 ?_
        refine lv_iconst (v := (nI 4)) hx hb dX1_request_58 (by decide) ?_
        refine q_iald (v := (nI ((L 4).length))) hx hb hK hP 4 0 rfl rfl (by decide) (by decide) (hR.2.1 4 (by decide) (by decide)) dX1_request_59 ?_
        refine lv_aload_n hx hb dX1_request_60 rfl (lv_at hl 1 rfl) ?_
        refine va_get (D := (dC, dI)) (ci := 0) (v := .ref (ad 4)) (C := RX1) (T := TX1) (N := 12) hx hb hts in_X1 hown hK hP 0 rfl rfl 3 (by decide) (hts _ q33) (fun _ h9 => h9) rfl dX1_request_61 ?_
        refine lv_iconst (v := (nI 3)) hx hb dX1_request_64 (by decide) ?_
        refine q_iald (v := (nI ((L 3).length))) hx hb hK hP 4 0 rfl rfl (by decide) (by decide) (hR.2.1 3 (by decide) (by decide)) dX1_request_65 ?_
        refine va_calli (va_runS (As := [.int (nI ((L 4).length)), .int (nI ((L 3).length))]) (rest := [.int (nI tg), .ref (ad 0)]) ⟨hx, hb, hml, hown, hts⟩ (metX1_atLeastOne l (L 4).length (L 3).length (by omega) h39.1 (by omega)) (va_cwS 2 hts (lw_S q89 q90 q16 q91) rfl rfl rfl (by decide +kernel) ⟨Nat.le_of_ble_eq_true rfl, Nat.le_of_ble_eq_true rfl⟩) ⟨fun a U g mk q => q, fun U hU hW => ⟨rfl, trivial⟩⟩ rfl rfl hl.1 rfl (lv_room (Nat.le_of_ble_eq_true rfl)) dX1_request_66 ⟨Nat.le_of_ble_eq_true rfl, Nat.le_of_ble_eq_true rfl⟩) hS (fun q _ h => h.elim) (fun q h => h.elim) (fun r1 u t H1 locs ht hvm hw hB hzq hkq hS => ?_)
        have hP : va_P (dC, dI) vwCl (xw ad ci cz nx pv lo le wo di ba (nI cp) (nI tg) hi (mi + (nI 1)) go) H1 := hP.kept (fun k q hq => hkq q.1 ((hP k q hq).lt) (fun h => h))
        generalize H1 = H at hP hS ⊢
        have hw : r1 = nI (max 1 ((L 4).length / (L 3).length)) := hw
        have hmx : max 1 ((L 4).length / (L 3).length) ≤ 64 := Nat.max_le.mpr ⟨by decide, Nat.le_trans (Nat.div_le_self _ _) h4⟩
        obtain ⟨d9, ed9⟩ : ∃ d, d = max 1 ((L 4).length / (L 3).length) := ⟨_, rfl⟩
        rw [← ed9] at hw hmx
        subst hw
        refine q_iadd hx hb dX1_request_69 ?_
        refine va_put (D := (dC, dI)) (ci := 0) (v := .int (nI (tg + d9))) (ty := .int) (C := RX1) (T := TX1) (N := 12) hx hb hts in_X1 tyX1 tyX1_ok nmX1 hown hK hP hD hS 0 rfl rfl 8 (by decide) (hts _ q38) (fun _ h9 => h9) rfl (by decide +kernel) rfl rfl (Nat.le_of_ble_eq_true rfl) dX1_request_70 (fun H locs hP hD hS => ?_)
        have hP : va_P (dC, dI) vwCl (xw ad ci cz nx pv lo le wo di ba (nI cp) (nI (tg + d9)) hi (mi + (nI 1)) go) H := hP
        have hD : va_D A (xw ad ci cz nx pv lo le wo di ba (nI cp) (nI (tg + d9)) hi (mi + (nI 1)) go) := hD
        refine lv_aload_n hx hb dX1_request_73 rfl (lv_at hl 1 rfl) ?_
        refine va_get (D := (dC, dI)) (ci := 0) (v := .int (nI (tg + d9))) (C := RX1) (T := TX1) (N := 12) hx hb hts in_X1 hown hK hP 0 rfl rfl 8 (by decide) (hts _ q38) (fun _ h9 => h9) rfl dX1_request_74 ?_
        refine lv_aload_n hx hb dX1_request_77 rfl (lv_at hl 1 rfl) ?_
        refine va_get (D := (dC, dI)) (ci := 0) (v := .int (nI cp)) (C := RX1) (T := TX1) (N := 12) hx hb hts in_X1 hown hK hP 0 rfl rfl 7 (by decide) (hts _ q37) (fun _ h9 => h9) rfl dX1_request_78 ?_
        refine q_icmp_le (tgt := 92) hx hb (by omega) (by omega) dX1_request_81 (by decide) (fun hle => ?_) (fun hle => ?_)
        · have etg : (q_tg cp L tg (q_wh L a)) = tg + d9 := by
            rw [hk3]
            show min cp (tg + max 1 ((L 4).length / (L 3).length)) = _
            rw [← ed9]
            exact Nat.min_eq_right hle
          have hP : va_P (dC, dI) vwCl (xw ad ci cz nx pv lo le wo di ba (nI cp) (nI (q_tg cp L tg (q_wh L a))) hi (mi + (nI 1)) go) H := by rw [etg]; exact hP
          have hD : va_D A (xw ad ci cz nx pv lo le wo di ba (nI cp) (nI (q_tg cp L tg (q_wh L a))) hi (mi + (nI 1)) go) := by rw [etg]; exact hD
          refine lv_aload_n hx hb dX1_request_92 rfl (lv_at hl 1 rfl) ?_
          refine lv_iload_n hx hb dX1_request_93 rfl (lv_at hl 2 rfl) ?_
          have hFc := va_free (wc := (xw ad ci cz nx pv lo le wo di ba (nI cp) (nI (q_tg cp L tg (q_wh L a))) hi (mi + (nI 1)) go)) hD hS hA [0, 1, 2, 3, 4, 5, 6, 7] rfl
          refine va_callv (va_runV (As := [.int (nI a)]) (rest := []) ⟨hx, hb, hml, hown, hts⟩ (metX1_makeRoom l dC dI ci cz ad H.size nx pv lo le wo di ba (nI cp) hi (mi + (nI 1)) go (tg := (q_tg cp L tg (q_wh L a))) (a := a) hok hR ha (Nat.le_trans (q_tg_le hcb.2.2) hcb.2.1) (fun _ => h39.2)) (cwV 1 hts (lw_V q92 q94 qs3 q16 q95) rfl rfl rfl (by decide +kernel) ⟨Nat.le_of_ble_eq_true rfl, Nat.le_of_ble_eq_true rfl⟩) ⟨q_blind, va_recv hK hP (ci := 0) (q0 := 0) rfl rfl, fun U hU hW => q_ent hP hK hD hU hW⟩ rfl rfl hl.1 rfl (lv_room (Nat.le_of_ble_eq_true rfl)) dX1_request_94 ⟨Nat.le_of_ble_eq_true rfl, Nat.le_of_ble_eq_true rfl⟩) hS (fun q _ h => hFc q h) hFc (fun  u t H1 locs ht hvm hw2 hB hzq hkq hS => ?_)
          obtain ⟨nx2, pv2, lo2, le2⟩ := u
          obtain ⟨hP1, hK1, hD1⟩ := hB
          rw [ht] at hP1
          have hP : va_P (dC, dI) vwCl (xw ad ci cz nx2 pv2 lo2 le2 wo ((q_mk wo (q_tg cp L tg (q_wh L a)) a (L, ba, di, go)).2.2.1) ((q_mk wo (q_tg cp L tg (q_wh L a)) a (L, ba, di, go)).2.1) (nI cp) (nI (q_tg cp L tg (q_wh L a))) hi (mi + (nI 1)) ((q_mk wo (q_tg cp L tg (q_wh L a)) a (L, ba, di, go)).2.2.2)) H1 := hP1
          have hD : va_D A (xw ad ci cz nx2 pv2 lo2 le2 wo ((q_mk wo (q_tg cp L tg (q_wh L a)) a (L, ba, di, go)).2.2.1) ((q_mk wo (q_tg cp L tg (q_wh L a)) a (L, ba, di, go)).2.1) (nI cp) (nI (q_tg cp L tg (q_wh L a))) hi (mi + (nI 1)) ((q_mk wo (q_tg cp L tg (q_wh L a)) a (L, ba, di, go)).2.2.2)) := hD1.weaken (fun k q _ h => hFc q.1 h)
          have hw2 : x_rep (q_mk wo (q_tg cp L tg (q_wh L a)) a (L, ba, di, go)).1 nx2 pv2 lo2 le2 := hw2
          generalize H1 = H at hP hS ⊢
          have ems : (q_ms cp a L wo ba di tg go) = (q_mk wo (q_tg cp L tg (q_wh L a)) a (L, ba, di, go)) := if_neg (by omega)
          refine lv_goto (tgt := 154) hx hb dX1_request_97 (by decide) ?_
          exact KT hkk nx2 pv2 lo2 le2 H locs ls (by rw [ems]; exact hw2) (by rw [ems]; exact hP) (by rw [ems]; exact hD) hS hl
        · have etg : (q_tg cp L tg (q_wh L a)) = cp := by
            rw [hk3]
            show min cp (tg + max 1 ((L 4).length / (L 3).length)) = _
            rw [← ed9]
            exact Nat.min_eq_left (Nat.le_of_lt hle)
          refine lv_aload_n hx hb dX1_request_84 rfl (lv_at hl 1 rfl) ?_
          refine lv_aload_n hx hb dX1_request_85 rfl (lv_at hl 1 rfl) ?_
          refine va_get (D := (dC, dI)) (ci := 0) (v := .int (nI cp)) (C := RX1) (T := TX1) (N := 12) hx hb hts in_X1 hown hK hP 0 rfl rfl 7 (by decide) (hts _ q37) (fun _ h9 => h9) rfl dX1_request_86 ?_
          refine va_put (D := (dC, dI)) (ci := 0) (v := .int (nI cp)) (ty := .int) (C := RX1) (T := TX1) (N := 12) hx hb hts in_X1 tyX1 tyX1_ok nmX1 hown hK hP hD hS 0 rfl rfl 8 (by decide) (hts _ q38) (fun _ h9 => h9) rfl (by decide +kernel) rfl rfl (Nat.le_of_ble_eq_true rfl) dX1_request_89 (fun H locs hP hD hS => ?_)
          have hP : va_P (dC, dI) vwCl (xw ad ci cz nx pv lo le wo di ba (nI cp) (nI cp) hi (mi + (nI 1)) go) H := hP
          have hD : va_D A (xw ad ci cz nx pv lo le wo di ba (nI cp) (nI cp) hi (mi + (nI 1)) go) := hD
          have hP : va_P (dC, dI) vwCl (xw ad ci cz nx pv lo le wo di ba (nI cp) (nI (q_tg cp L tg (q_wh L a))) hi (mi + (nI 1)) go) H := by rw [etg]; exact hP
          have hD : va_D A (xw ad ci cz nx pv lo le wo di ba (nI cp) (nI (q_tg cp L tg (q_wh L a))) hi (mi + (nI 1)) go) := by rw [etg]; exact hD
          refine lv_aload_n hx hb dX1_request_92 rfl (lv_at hl 1 rfl) ?_
          refine lv_iload_n hx hb dX1_request_93 rfl (lv_at hl 2 rfl) ?_
          have hFc := va_free (wc := (xw ad ci cz nx pv lo le wo di ba (nI cp) (nI (q_tg cp L tg (q_wh L a))) hi (mi + (nI 1)) go)) hD hS hA [0, 1, 2, 3, 4, 5, 6, 7] rfl
          refine va_callv (va_runV (As := [.int (nI a)]) (rest := []) ⟨hx, hb, hml, hown, hts⟩ (metX1_makeRoom l dC dI ci cz ad H.size nx pv lo le wo di ba (nI cp) hi (mi + (nI 1)) go (tg := (q_tg cp L tg (q_wh L a))) (a := a) hok hR ha (Nat.le_trans (q_tg_le hcb.2.2) hcb.2.1) (fun _ => h39.2)) (cwV 1 hts (lw_V q92 q94 qs3 q16 q95) rfl rfl rfl (by decide +kernel) ⟨Nat.le_of_ble_eq_true rfl, Nat.le_of_ble_eq_true rfl⟩) ⟨q_blind, va_recv hK hP (ci := 0) (q0 := 0) rfl rfl, fun U hU hW => q_ent hP hK hD hU hW⟩ rfl rfl hl.1 rfl (lv_room (Nat.le_of_ble_eq_true rfl)) dX1_request_94 ⟨Nat.le_of_ble_eq_true rfl, Nat.le_of_ble_eq_true rfl⟩) hS (fun q _ h => hFc q h) hFc (fun  u t H1 locs ht hvm hw2 hB hzq hkq hS => ?_)
          obtain ⟨nx2, pv2, lo2, le2⟩ := u
          obtain ⟨hP1, hK1, hD1⟩ := hB
          rw [ht] at hP1
          have hP : va_P (dC, dI) vwCl (xw ad ci cz nx2 pv2 lo2 le2 wo ((q_mk wo (q_tg cp L tg (q_wh L a)) a (L, ba, di, go)).2.2.1) ((q_mk wo (q_tg cp L tg (q_wh L a)) a (L, ba, di, go)).2.1) (nI cp) (nI (q_tg cp L tg (q_wh L a))) hi (mi + (nI 1)) ((q_mk wo (q_tg cp L tg (q_wh L a)) a (L, ba, di, go)).2.2.2)) H1 := hP1
          have hD : va_D A (xw ad ci cz nx2 pv2 lo2 le2 wo ((q_mk wo (q_tg cp L tg (q_wh L a)) a (L, ba, di, go)).2.2.1) ((q_mk wo (q_tg cp L tg (q_wh L a)) a (L, ba, di, go)).2.1) (nI cp) (nI (q_tg cp L tg (q_wh L a))) hi (mi + (nI 1)) ((q_mk wo (q_tg cp L tg (q_wh L a)) a (L, ba, di, go)).2.2.2)) := hD1.weaken (fun k q _ h => hFc q.1 h)
          have hw2 : x_rep (q_mk wo (q_tg cp L tg (q_wh L a)) a (L, ba, di, go)).1 nx2 pv2 lo2 le2 := hw2
          generalize H1 = H at hP hS ⊢
          have ems : (q_ms cp a L wo ba di tg go) = (q_mk wo (q_tg cp L tg (q_wh L a)) a (L, ba, di, go)) := if_neg (by omega)
          refine lv_goto (tgt := 154) hx hb dX1_request_97 (by decide) ?_
          exact KT hkk nx2 pv2 lo2 le2 H locs ls (by rw [ems]; exact hw2) (by rw [ems]; exact hP) (by rw [ems]; exact hD) hS hl
    · exact KH (Or.inr hk2)
/-- read(v) -/
abbrev wsX1_read : List Cond := ws_ yX1_read cX1_read 2 (some .int)
set_option maxHeartbeats 4000000 in
set_option maxRecDepth 100000 in
theorem metX1_read (l : Launch) (dC : Nat → ClassId) (dI : Nat → Nat → Nat) (ci cz : ClassId) (ad : Nat → Nat) (sz : Nat) (nx pv lo le wo di ba : Nat → Int32) (hi mi go : Int32) {L : Nat → List Nat} {cp tg : Nat} {v : Int32} (hI : q_inv cp L di tg) (hR : x_rep L nx pv lo le) : Met l yX1_read wsX1_read ({ frames := 5, cells := 0, slots := 0, locals := 113 }) (va_Pc [.ref (ad 0), .int v] (q_Pre dC dI ci cz sz (xw ad ci cz nx pv lo le wo di ba (nI cp) (nI tg) hi mi go))) (va_Qi (fun (r : Int32) (u : x_U) => r = (q_rd cp v L wo ba di tg hi mi go).1 ∧ x_rep (q_rd cp v L wo ba di tg hi mi go).2.1 u.1 u.2.1 u.2.2.1 u.2.2.2) (xB dC dI ci cz (va_A (xw ad ci cz nx pv lo le wo di ba (nI cp) (nI tg) hi mi go) sz) ad ((q_rd cp v L wo ba di tg hi mi go).2.2.1) ((q_rd cp v L wo ba di tg hi mi go).2.2.2.2.1) ((q_rd cp v L wo ba di tg hi mi go).2.2.2.1) (nI cp) (nI (q_rd cp v L wo ba di tg hi mi go).2.2.2.2.2.1) ((q_rd cp v L wo ba di tg hi mi go).2.2.2.2.2.2.1) ((q_rd cp v L wo ba di tg hi mi go).2.2.2.2.2.2.2.1) ((q_rd cp v L wo ba di tg hi mi go).2.2.2.2.2.2.2.2)) (va_A (xw ad ci cz nx pv lo le wo di ba (nI cp) (nI tg) hi mi go) sz)) 0 0 (va_A (xw ad ci cz nx pv lo le wo di ba (nI cp) (nI tg) hi mi go) sz) := by
  refine Met.ofW (cc := cX1_read) (maxL := 2) (ret := (some .int)) (by decide) rfl ?_
  intro p e s m args below meth c s₁ B hml hv
  obtain ⟨rfl, hsz, hP, hK, hD0⟩ := hv
  have hx := B.exec
  have hb := B.bytes
  have hr := B.returns
  have hts := atoms_spec (ws := wsX1_read) B.pre
  have hts : ∀ w ∈ lw_all, w.before _ s = true := fun w h => hts w (List.mem_cons_of_mem _ h)
  have hown : s.vm.findClass RX1 = some m.cls := findClass_of_methodNamed B.named
  have hlocks := B.notSynchronized
  subst hsz
  have hD := hD0.self (sz := s.heap.size)
  generalize hAe : va_A (xw ad ci cz nx pv lo le wo di ba (nI cp) (nI tg) hi mi go) s.heap.size = A at hD ⊢
  have hA : ∀ q : Nat, s.heap.size ≤ q → A q := fun q h => by rw [← hAe]; exact Or.inr h
  have hS : va_S A s.heap s.heap [] := va_S.rf
  have hP : va_P (dC, dI) vwCl (xw ad ci cz nx pv lo le wo di ba (nI cp) (nI tg) hi mi go) s.heap := hP
  have hl := lv_entry ([.ref (ad 0), .int v]) (n := 2) (Nat.le_of_ble_eq_true rfl)
  rw [lg_entry_eq]
  generalize (lg_sl ([.ref (ad 0), .int v]) ++ List.replicate (2 - (lg_sl ([.ref (ad 0), .int v])).length) Slot.unset).toArray = ls at hl ⊢
  have hl : lv_has ls 2 [(0, .ref (ad 0)), (1, .int v)] := hl
  refine lv_iload_n hx hb dX1_read_0 rfl (lv_at hl 1 rfl) ?_
  refine va_calli (va_runS (As := [.int v]) (rest := []) ⟨hx, hb, hml, hown, hts⟩ (metX1_isAddress l v) (va_cwS 1 hts (lw_S q74 q75 q16 q76) rfl rfl rfl (by decide +kernel) ⟨Nat.le_of_ble_eq_true rfl, Nat.le_of_ble_eq_true rfl⟩) ⟨fun a U g mk q => q, fun U hU hW => ⟨rfl, trivial⟩⟩ rfl rfl hl.1 rfl (lv_room (Nat.le_of_ble_eq_true rfl)) dX1_read_1 ⟨Nat.le_of_ble_eq_true rfl, Nat.le_of_ble_eq_true rfl⟩) hS (fun q _ h => h.elim) (fun q h => h.elim) (fun r0 u t H1 locs ht hvm hw hB hzq hkq hS => ?_)
  have hP : va_P (dC, dI) vwCl (xw ad ci cz nx pv lo le wo di ba (nI cp) (nI tg) hi mi go) H1 := hP.kept (fun k q hq => hkq q.1 ((hP k q hq).lt) (fun h => h))
  generalize H1 = H at hP hS ⊢
  rcases hw with ⟨e0, j, hj, ej⟩ | ⟨e0, hj⟩
  · subst e0
    subst ej
    have e9 := q_rd_in (cp := cp) (L := L) (wo := wo) (ba := ba) (di := di) (tg := tg) (hi := hi) (mi := mi) (go := go) hj
    refine q_if_ne (tgt := 9) hx hb (by decide) dX1_read_4 (by decide) (fun _ => ?_) (fun q => absurd q (by decide))
    refine lv_aload_n hx hb dX1_read_9 rfl (lv_at hl 0 rfl) ?_
    refine lv_iload_n hx hb dX1_read_10 rfl (lv_at hl 1 rfl) ?_
    have hFc := va_free (wc := (xw ad ci cz nx pv lo le wo di ba (nI cp) (nI tg) hi mi go)) hD hS hA [0, 1, 2, 3, 4, 5, 6, 7] rfl
    refine va_callv (va_runV (As := [.int (nI j)]) (rest := []) ⟨hx, hb, hml, hown, hts⟩ (metX1_request l dC dI ci cz ad H.size nx pv lo le wo di ba hi mi go (a := j) hI hR hj) (cwV 1 hts (lw_V q77 q79 qs0 q16 q80) rfl rfl rfl (by decide +kernel) ⟨Nat.le_of_ble_eq_true rfl, Nat.le_of_ble_eq_true rfl⟩) ⟨q_blind, va_recv hK hP (ci := 0) (q0 := 0) rfl rfl, fun U hU hW => q_ent hP hK hD hU hW⟩ rfl rfl hl.1 rfl (lv_room (Nat.le_of_ble_eq_true rfl)) dX1_read_11 ⟨Nat.le_of_ble_eq_true rfl, Nat.le_of_ble_eq_true rfl⟩) hS (fun q _ h => hFc q h) hFc (fun  u t H1 locs ht hvm hw hB hzq hkq hS => ?_)
    obtain ⟨nx1, pv1, lo1, le1⟩ := u
    obtain ⟨hP1, hK1, hD1⟩ := hB
    rw [ht] at hP1
    have hP : va_P (dC, dI) vwCl (xw ad ci cz nx1 pv1 lo1 le1 ((q_rq cp j L wo ba di tg hi mi go).2.1) ((q_rq cp j L wo ba di tg hi mi go).2.2.2.1) ((q_rq cp j L wo ba di tg hi mi go).2.2.1) (nI cp) (nI (q_rq cp j L wo ba di tg hi mi go).2.2.2.2.1) ((q_rq cp j L wo ba di tg hi mi go).2.2.2.2.2.1) ((q_rq cp j L wo ba di tg hi mi go).2.2.2.2.2.2.1) ((q_rq cp j L wo ba di tg hi mi go).2.2.2.2.2.2.2)) H1 := hP1
    have hD : va_D A (xw ad ci cz nx1 pv1 lo1 le1 ((q_rq cp j L wo ba di tg hi mi go).2.1) ((q_rq cp j L wo ba di tg hi mi go).2.2.2.1) ((q_rq cp j L wo ba di tg hi mi go).2.2.1) (nI cp) (nI (q_rq cp j L wo ba di tg hi mi go).2.2.2.2.1) ((q_rq cp j L wo ba di tg hi mi go).2.2.2.2.2.1) ((q_rq cp j L wo ba di tg hi mi go).2.2.2.2.2.2.1) ((q_rq cp j L wo ba di tg hi mi go).2.2.2.2.2.2.2)) := hD1.weaken (fun k q _ h => hFc q.1 h)
    have hw : x_rep (q_rq cp j L wo ba di tg hi mi go).1 nx1 pv1 lo1 le1 := hw
    generalize H1 = H at hP hS ⊢
    refine lv_aload_n hx hb dX1_read_14 rfl (lv_at hl 0 rfl) ?_
    refine va_get (D := (dC, dI)) (ci := 0) (v := .ref (ad 5)) (C := RX1) (T := TX1) (N := 12) hx hb hts in_X1 hown hK hP 0 rfl rfl 4 (by decide) (hts _ q34) (fun _ h9 => h9) rfl dX1_read_15 ?_
    refine lv_iload_n hx hb dX1_read_18 rfl (lv_at hl 1 rfl) ?_
    refine q_iald (v := (((q_rq cp j L wo ba di tg hi mi go).2.1) j)) hx hb hK hP 5 0 rfl rfl (by omega) (by decide) rfl dX1_read_19 ?_
    exact W.iret (v := (((q_rq cp j L wo ba di tg hi mi go).2.1) j)) hx hb hr (fun t ht hW => ⟨⟨(((q_rq cp j L wo ba di tg hi mi go).2.1) j), (nx1, pv1, lo1, le1), rfl, ⟨by rw [e9], by rw [e9]; exact hw⟩, by rw [ht]; exact (by rw [e9]; exact hP), va_K.moved hW.alike hK, (by rw [e9]; exact hD)⟩, hS.F ht⟩) hS.2.2 dX1_read_20
  · subst e0
    have e9 := q_rd_out (cp := cp) (L := L) (wo := wo) (ba := ba) (di := di) (tg := tg) (hi := hi) (mi := mi) (go := go) hj
    refine q_if_ne (tgt := 9) hx hb (by decide) dX1_read_4 (by decide) (fun q => absurd q (by decide)) (fun _ => ?_)
    refine lv_iconst (v := (nI 0)) hx hb dX1_read_7 (by decide) ?_
    exact W.iret (v := (nI 0)) hx hb hr (fun t ht hW => ⟨⟨(nI 0), (nx, pv, lo, le), rfl, ⟨by rw [e9], by rw [e9]; exact hR⟩, by rw [ht]; exact (by rw [e9]; exact hP), va_K.moved hW.alike hK, (by rw [e9]; exact hD)⟩, hS.F ht⟩) hS.2.2 dX1_read_8
/-- write(v, x) -/
abbrev wsX1_write : List Cond := ws_ yX1_write cX1_write 3 (some .boolean)
set_option maxHeartbeats 4000000 in
set_option maxRecDepth 100000 in
theorem metX1_write (l : Launch) (dC : Nat → ClassId) (dI : Nat → Nat → Nat) (ci cz : ClassId) (ad : Nat → Nat) (sz : Nat) (nx pv lo le wo di ba : Nat → Int32) (hi mi go : Int32) {L : Nat → List Nat} {cp tg : Nat} {v x : Int32} (hI : q_inv cp L di tg) (hR : x_rep L nx pv lo le) : Met l yX1_write wsX1_write ({ frames := 5, cells := 0, slots := 0, locals := 113 }) (va_Pc [.ref (ad 0), .int v, .int x] (q_Pre dC dI ci cz sz (xw ad ci cz nx pv lo le wo di ba (nI cp) (nI tg) hi mi go))) (va_Qi (fun (r : Int32) (u : x_U) => r = (q_wr cp v x L wo ba di tg hi mi go).1 ∧ x_rep (q_wr cp v x L wo ba di tg hi mi go).2.1 u.1 u.2.1 u.2.2.1 u.2.2.2) (xB dC dI ci cz (va_A (xw ad ci cz nx pv lo le wo di ba (nI cp) (nI tg) hi mi go) sz) ad ((q_wr cp v x L wo ba di tg hi mi go).2.2.1) ((q_wr cp v x L wo ba di tg hi mi go).2.2.2.2.1) ((q_wr cp v x L wo ba di tg hi mi go).2.2.2.1) (nI cp) (nI (q_wr cp v x L wo ba di tg hi mi go).2.2.2.2.2.1) ((q_wr cp v x L wo ba di tg hi mi go).2.2.2.2.2.2.1) ((q_wr cp v x L wo ba di tg hi mi go).2.2.2.2.2.2.2.1) ((q_wr cp v x L wo ba di tg hi mi go).2.2.2.2.2.2.2.2)) (va_A (xw ad ci cz nx pv lo le wo di ba (nI cp) (nI tg) hi mi go) sz)) 0 0 (va_A (xw ad ci cz nx pv lo le wo di ba (nI cp) (nI tg) hi mi go) sz) := by
  refine Met.ofW (cc := cX1_write) (maxL := 3) (ret := (some .boolean)) (by decide) rfl ?_
  intro p e s m args below meth c s₁ B hml hv
  obtain ⟨rfl, hsz, hP, hK, hD0⟩ := hv
  have hx := B.exec
  have hb := B.bytes
  have hr := B.returns
  have hts := atoms_spec (ws := wsX1_write) B.pre
  have hts : ∀ w ∈ lw_all, w.before _ s = true := fun w h => hts w (List.mem_cons_of_mem _ h)
  have hown : s.vm.findClass RX1 = some m.cls := findClass_of_methodNamed B.named
  have hlocks := B.notSynchronized
  subst hsz
  have hD := hD0.self (sz := s.heap.size)
  generalize hAe : va_A (xw ad ci cz nx pv lo le wo di ba (nI cp) (nI tg) hi mi go) s.heap.size = A at hD ⊢
  have hA : ∀ q : Nat, s.heap.size ≤ q → A q := fun q h => by rw [← hAe]; exact Or.inr h
  have hS : va_S A s.heap s.heap [] := va_S.rf
  have hP : va_P (dC, dI) vwCl (xw ad ci cz nx pv lo le wo di ba (nI cp) (nI tg) hi mi go) s.heap := hP
  have hl := lv_entry ([.ref (ad 0), .int v, .int x]) (n := 3) (Nat.le_of_ble_eq_true rfl)
  rw [lg_entry_eq]
  generalize (lg_sl ([.ref (ad 0), .int v, .int x]) ++ List.replicate (3 - (lg_sl ([.ref (ad 0), .int v, .int x])).length) Slot.unset).toArray = ls at hl ⊢
  have hl : lv_has ls 3 [(0, .ref (ad 0)), (1, .int v), (2, .int x)] := hl
  refine lv_iload_n hx hb dX1_write_0 rfl (lv_at hl 1 rfl) ?_
  refine va_calli (va_runS (As := [.int v]) (rest := []) ⟨hx, hb, hml, hown, hts⟩ (metX1_isAddress l v) (va_cwS 1 hts (lw_S q74 q75 q16 q76) rfl rfl rfl (by decide +kernel) ⟨Nat.le_of_ble_eq_true rfl, Nat.le_of_ble_eq_true rfl⟩) ⟨fun a U g mk q => q, fun U hU hW => ⟨rfl, trivial⟩⟩ rfl rfl hl.1 rfl (lv_room (Nat.le_of_ble_eq_true rfl)) dX1_write_1 ⟨Nat.le_of_ble_eq_true rfl, Nat.le_of_ble_eq_true rfl⟩) hS (fun q _ h => h.elim) (fun q h => h.elim) (fun r0 u t H1 locs ht hvm hw hB hzq hkq hS => ?_)
  have hP : va_P (dC, dI) vwCl (xw ad ci cz nx pv lo le wo di ba (nI cp) (nI tg) hi mi go) H1 := hP.kept (fun k q hq => hkq q.1 ((hP k q hq).lt) (fun h => h))
  generalize H1 = H at hP hS ⊢
  rcases hw with ⟨e0, j, hj, ej⟩ | ⟨e0, hj⟩
  · subst e0
    subst ej
    have e9 := q_wr_in (cp := cp) (x := x) (L := L) (wo := wo) (ba := ba) (di := di) (tg := tg) (hi := hi) (mi := mi) (go := go) hj
    refine q_if_ne (tgt := 9) hx hb (by decide) dX1_write_4 (by decide) (fun _ => ?_) (fun q => absurd q (by decide))
    refine lv_aload_n hx hb dX1_write_9 rfl (lv_at hl 0 rfl) ?_
    refine lv_iload_n hx hb dX1_write_10 rfl (lv_at hl 1 rfl) ?_
    have hFc := va_free (wc := (xw ad ci cz nx pv lo le wo di ba (nI cp) (nI tg) hi mi go)) hD hS hA [0, 1, 2, 3, 4, 5, 6, 7] rfl
    refine va_callv (va_runV (As := [.int (nI j)]) (rest := []) ⟨hx, hb, hml, hown, hts⟩ (metX1_request l dC dI ci cz ad H.size nx pv lo le wo di ba hi mi go (a := j) hI hR hj) (cwV 1 hts (lw_V q77 q79 qs0 q16 q80) rfl rfl rfl (by decide +kernel) ⟨Nat.le_of_ble_eq_true rfl, Nat.le_of_ble_eq_true rfl⟩) ⟨q_blind, va_recv hK hP (ci := 0) (q0 := 0) rfl rfl, fun U hU hW => q_ent hP hK hD hU hW⟩ rfl rfl hl.1 rfl (lv_room (Nat.le_of_ble_eq_true rfl)) dX1_write_11 ⟨Nat.le_of_ble_eq_true rfl, Nat.le_of_ble_eq_true rfl⟩) hS (fun q _ h => hFc q h) hFc (fun  u t H1 locs ht hvm hw hB hzq hkq hS => ?_)
    obtain ⟨nx1, pv1, lo1, le1⟩ := u
    obtain ⟨hP1, hK1, hD1⟩ := hB
    rw [ht] at hP1
    have hP : va_P (dC, dI) vwCl (xw ad ci cz nx1 pv1 lo1 le1 ((q_rq cp j L wo ba di tg hi mi go).2.1) ((q_rq cp j L wo ba di tg hi mi go).2.2.2.1) ((q_rq cp j L wo ba di tg hi mi go).2.2.1) (nI cp) (nI (q_rq cp j L wo ba di tg hi mi go).2.2.2.2.1) ((q_rq cp j L wo ba di tg hi mi go).2.2.2.2.2.1) ((q_rq cp j L wo ba di tg hi mi go).2.2.2.2.2.2.1) ((q_rq cp j L wo ba di tg hi mi go).2.2.2.2.2.2.2)) H1 := hP1
    have hD : va_D A (xw ad ci cz nx1 pv1 lo1 le1 ((q_rq cp j L wo ba di tg hi mi go).2.1) ((q_rq cp j L wo ba di tg hi mi go).2.2.2.1) ((q_rq cp j L wo ba di tg hi mi go).2.2.1) (nI cp) (nI (q_rq cp j L wo ba di tg hi mi go).2.2.2.2.1) ((q_rq cp j L wo ba di tg hi mi go).2.2.2.2.2.1) ((q_rq cp j L wo ba di tg hi mi go).2.2.2.2.2.2.1) ((q_rq cp j L wo ba di tg hi mi go).2.2.2.2.2.2.2)) := hD1.weaken (fun k q _ h => hFc q.1 h)
    have hw : x_rep (q_rq cp j L wo ba di tg hi mi go).1 nx1 pv1 lo1 le1 := hw
    generalize H1 = H at hP hS ⊢
    refine lv_aload_n hx hb dX1_write_14 rfl (lv_at hl 0 rfl) ?_
    refine va_get (D := (dC, dI)) (ci := 0) (v := .ref (ad 5)) (C := RX1) (T := TX1) (N := 12) hx hb hts in_X1 hown hK hP 0 rfl rfl 4 (by decide) (hts _ q34) (fun _ h9 => h9) rfl dX1_write_15 ?_
    refine lv_iload_n hx hb dX1_write_18 rfl (lv_at hl 1 rfl) ?_
    refine lv_iload_n hx hb dX1_write_19 rfl (lv_at hl 2 rfl) ?_
    refine q_iast (g := (upd ((q_rq cp j L wo ba di tg hi mi go).2.1) j x)) hx hb hK hP hD hS 5 0 rfl rfl (by omega) (by decide) rfl dX1_write_20 (fun H locs hP hD hS => ?_)
    have hP : va_P (dC, dI) vwCl (xw ad ci cz nx1 pv1 lo1 le1 (upd ((q_rq cp j L wo ba di tg hi mi go).2.1) j x) ((q_rq cp j L wo ba di tg hi mi go).2.2.2.1) ((q_rq cp j L wo ba di tg hi mi go).2.2.1) (nI cp) (nI (q_rq cp j L wo ba di tg hi mi go).2.2.2.2.1) ((q_rq cp j L wo ba di tg hi mi go).2.2.2.2.2.1) ((q_rq cp j L wo ba di tg hi mi go).2.2.2.2.2.2.1) ((q_rq cp j L wo ba di tg hi mi go).2.2.2.2.2.2.2)) H := hP
    have hD : va_D A (xw ad ci cz nx1 pv1 lo1 le1 (upd ((q_rq cp j L wo ba di tg hi mi go).2.1) j x) ((q_rq cp j L wo ba di tg hi mi go).2.2.2.1) ((q_rq cp j L wo ba di tg hi mi go).2.2.1) (nI cp) (nI (q_rq cp j L wo ba di tg hi mi go).2.2.2.2.1) ((q_rq cp j L wo ba di tg hi mi go).2.2.2.2.2.1) ((q_rq cp j L wo ba di tg hi mi go).2.2.2.2.2.2.1) ((q_rq cp j L wo ba di tg hi mi go).2.2.2.2.2.2.2)) := hD
    refine lv_aload_n hx hb dX1_write_21 rfl (lv_at hl 0 rfl) ?_
    refine va_get (D := (dC, dI)) (ci := 0) (v := .ref (ad 6)) (C := RX1) (T := TX1) (N := 12) hx hb hts in_X1 hown hK hP 0 rfl rfl 5 (by decide) (hts _ q35) (fun _ h9 => h9) rfl dX1_write_22 ?_
    refine lv_iload_n hx hb dX1_write_25 rfl (lv_at hl 1 rfl) ?_
    refine lv_iconst (v := (nI 1)) hx hb dX1_write_26 (by decide) ?_
    refine q_zast (g := (upd ((q_rq cp j L wo ba di tg hi mi go).2.2.2.1) j (nI 1))) hx hb hK hP hD hS 6 1 rfl rfl (by omega) (by decide) (by decide) rfl dX1_write_27 (fun H locs hP hD hS => ?_)
    have hP : va_P (dC, dI) vwCl (xw ad ci cz nx1 pv1 lo1 le1 (upd ((q_rq cp j L wo ba di tg hi mi go).2.1) j x) (upd ((q_rq cp j L wo ba di tg hi mi go).2.2.2.1) j (nI 1)) ((q_rq cp j L wo ba di tg hi mi go).2.2.1) (nI cp) (nI (q_rq cp j L wo ba di tg hi mi go).2.2.2.2.1) ((q_rq cp j L wo ba di tg hi mi go).2.2.2.2.2.1) ((q_rq cp j L wo ba di tg hi mi go).2.2.2.2.2.2.1) ((q_rq cp j L wo ba di tg hi mi go).2.2.2.2.2.2.2)) H := hP
    have hD : va_D A (xw ad ci cz nx1 pv1 lo1 le1 (upd ((q_rq cp j L wo ba di tg hi mi go).2.1) j x) (upd ((q_rq cp j L wo ba di tg hi mi go).2.2.2.1) j (nI 1)) ((q_rq cp j L wo ba di tg hi mi go).2.2.1) (nI cp) (nI (q_rq cp j L wo ba di tg hi mi go).2.2.2.2.1) ((q_rq cp j L wo ba di tg hi mi go).2.2.2.2.2.1) ((q_rq cp j L wo ba di tg hi mi go).2.2.2.2.2.2.1) ((q_rq cp j L wo ba di tg hi mi go).2.2.2.2.2.2.2)) := hD
    refine lv_iconst (v := (nI 1)) hx hb dX1_write_28 (by decide) ?_
    exact W.zret (v := (nI 1)) hx hb hr rfl (fun t ht hW => ⟨⟨(nI 1), (nx1, pv1, lo1, le1), rfl, ⟨by rw [e9], by rw [e9]; exact hw⟩, by rw [ht]; exact (by rw [e9]; exact hP), va_K.moved hW.alike hK, (by rw [e9]; exact hD)⟩, hS.F ht⟩) hS.2.2 dX1_write_29
  · subst e0
    have e9 := q_wr_out (cp := cp) (x := x) (L := L) (wo := wo) (ba := ba) (di := di) (tg := tg) (hi := hi) (mi := mi) (go := go) hj
    refine q_if_ne (tgt := 9) hx hb (by decide) dX1_write_4 (by decide) (fun q => absurd q (by decide)) (fun _ => ?_)
    refine lv_iconst (v := (nI 0)) hx hb dX1_write_7 (by decide) ?_
    exact W.zret (v := (nI 0)) hx hb hr rfl (fun t ht hW => ⟨⟨(nI 0), (nx, pv, lo, le), rfl, ⟨by rw [e9], by rw [e9]; exact hR⟩, by rw [ht]; exact (by rw [e9]; exact hP), va_K.moved hW.alike hK, (by rw [e9]; exact hD)⟩, hS.F ht⟩) hS.2.2 dX1_write_8
end
section
/-- whichList(v) -/
abbrev wsX1_whichList : List Cond := ws_ yX1_whichList cX1_whichList 2 (some .int)
set_option maxHeartbeats 4000000 in
set_option maxRecDepth 100000 in
theorem metX1_whichList (l : Launch) (dC : Nat → ClassId) (dI : Nat → Nat → Nat) (ci cz : ClassId) (ad : Nat → Nat) (sz : Nat) (nx pv lo le wo di ba : Nat → Int32) (cp tg hi mi go : Int32) {L : Nat → List Nat} {v : Int32} (hR : x_rep L nx pv lo le) : Met l yX1_whichList wsX1_whichList ({ frames := 1, cells := 0, slots := 0, locals := 20 }) (va_Pc [.ref (ad 0), .int v] (q_Pre dC dI ci cz sz (xw ad ci cz nx pv lo le wo di ba cp tg hi mi go))) (va_Qi (fun (r : Int32) (_ : Unit) => r = q_so (q_wlf L) v) (fun (_ : Unit) t => q_Post dC dI ci cz (va_A (xw ad ci cz nx pv lo le wo di ba cp tg hi mi go) sz) (xw ad ci cz nx pv lo le wo di ba cp tg hi mi go) t) (va_A (xw ad ci cz nx pv lo le wo di ba cp tg hi mi go) sz)) 0 0 (va_A (xw ad ci cz nx pv lo le wo di ba cp tg hi mi go) sz) := by
  refine Met.ofW (cc := cX1_whichList) (maxL := 2) (ret := (some .int)) (by decide) rfl ?_
  intro p e s m args below meth c s₁ B hml hv
  obtain ⟨rfl, hsz, hP, hK, hD0⟩ := hv
  have hx := B.exec
  have hb := B.bytes
  have hr := B.returns
  have hts := atoms_spec (ws := wsX1_whichList) B.pre
  have hts : ∀ w ∈ lw_all, w.before _ s = true := fun w h => hts w (List.mem_cons_of_mem _ h)
  have hown : s.vm.findClass RX1 = some m.cls := findClass_of_methodNamed B.named
  have hlocks := B.notSynchronized
  subst hsz
  have hD := hD0.self (sz := s.heap.size)
  generalize hAe : va_A (xw ad ci cz nx pv lo le wo di ba cp tg hi mi go) s.heap.size = A at hD ⊢
  have hA : ∀ q : Nat, s.heap.size ≤ q → A q := fun q h => by rw [← hAe]; exact Or.inr h
  have hS : va_S A s.heap s.heap [] := va_S.rf
  have hP : va_P (dC, dI) vwCl (xw ad ci cz nx pv lo le wo di ba cp tg hi mi go) s.heap := hP
  have hl := lv_entry ([.ref (ad 0), .int v]) (n := 2) (Nat.le_of_ble_eq_true rfl)
  rw [lg_entry_eq]
  generalize (lg_sl ([.ref (ad 0), .int v]) ++ List.replicate (2 - (lg_sl ([.ref (ad 0), .int v])).length) Slot.unset).toArray = ls at hl ⊢
  have hl : lv_has ls 2 [(0, .ref (ad 0)), (1, .int v)] := hl
  refine lv_iload_n hx hb dX1_whichList_0 rfl (lv_at hl 1 rfl) ?_
  refine va_calli (va_runS (As := [.int v]) (rest := []) ⟨hx, hb, hml, hown, hts⟩ (metX1_isAddress l v) (va_cwS 1 hts (lw_S q74 q75 q16 q76) rfl rfl rfl (by decide +kernel) ⟨Nat.le_of_ble_eq_true rfl, Nat.le_of_ble_eq_true rfl⟩) ⟨fun a U g mk q => q, fun U hU hW => ⟨rfl, trivial⟩⟩ rfl rfl hl.1 rfl (lv_room (Nat.le_of_ble_eq_true rfl)) dX1_whichList_1 ⟨Nat.le_of_ble_eq_true rfl, Nat.le_of_ble_eq_true rfl⟩) hS (fun q _ h => h.elim) (fun q h => h.elim) (fun r0 u t H1 locs ht hvm hw hB hzq hkq hS => ?_)
  have hP : va_P (dC, dI) vwCl (xw ad ci cz nx pv lo le wo di ba cp tg hi mi go) H1 := hP.kept (fun k q hq => hkq q.1 ((hP k q hq).lt) (fun h => h))
  generalize H1 = H at hP hS ⊢
  rcases hw with ⟨e0, j, hj, ej⟩ | ⟨e0, hj⟩
  · subst e0
    subst ej
    refine q_if_eq (tgt := 16) hx hb (by decide) dX1_whichList_4 (by decide) (fun q => absurd q (by decide)) (fun _ => ?_)
    refine lv_aload_n hx hb dX1_whichList_7 rfl (lv_at hl 0 rfl) ?_
    refine va_get (D := (dC, dI)) (ci := 0) (v := .ref (ad 3)) (C := RX1) (T := TX1) (N := 12) hx hb hts in_X1 hown hK hP 0 rfl rfl 2 (by decide) (hts _ q32) (fun _ h9 => h9) rfl dX1_whichList_8 ?_
    refine lv_iload_n hx hb dX1_whichList_11 rfl (lv_at hl 1 rfl) ?_
    refine q_iald (v := (nI (q_wh L j))) hx hb hK hP 3 0 rfl rfl (by omega) (by decide) (hR.1 j hj) dX1_whichList_12 ?_
    refine lv_goto (tgt := 17) hx hb dX1_whichList_13 (by decide) ?_
    exact W.iret (v := (nI (q_wh L j))) hx hb hr (fun t ht hW => ⟨⟨(nI (q_wh L j)), (), rfl, (by rw [q_so_in hj]; rfl), by rw [ht]; exact hP, va_K.moved hW.alike hK, hD⟩, hS.F ht⟩) hS.2.2 dX1_whichList_17
  · subst e0
    refine q_if_eq (tgt := 16) hx hb (by decide) dX1_whichList_4 (by decide) (fun _ => ?_) (fun q => absurd q (by decide))
    refine lv_iconst (v := (nI 0)) hx hb dX1_whichList_16 (by decide) ?_
    exact W.iret (v := (nI 0)) hx hb hr (fun t ht hW => ⟨⟨(nI 0), (), rfl, (by rw [q_so_out hj]), by rw [ht]; exact hP, va_K.moved hW.alike hK, hD⟩, hS.F ht⟩) hS.2.2 dX1_whichList_17
/-- store(v) -/
abbrev wsX1_store : List Cond := ws_ yX1_store cX1_store 2 (some .int)
set_option maxHeartbeats 4000000 in
set_option maxRecDepth 100000 in
theorem metX1_store (l : Launch) (dC : Nat → ClassId) (dI : Nat → Nat → Nat) (ci cz : ClassId) (ad : Nat → Nat) (sz : Nat) (nx pv lo le wo di ba : Nat → Int32) (cp tg hi mi go : Int32) {v : Int32} : Met l yX1_store wsX1_store ({ frames := 1, cells := 0, slots := 0, locals := 20 }) (va_Pc [.ref (ad 0), .int v] (q_Pre dC dI ci cz sz (xw ad ci cz nx pv lo le wo di ba cp tg hi mi go))) (va_Qi (fun (r : Int32) (_ : Unit) => r = q_so ba v) (fun (_ : Unit) t => q_Post dC dI ci cz (va_A (xw ad ci cz nx pv lo le wo di ba cp tg hi mi go) sz) (xw ad ci cz nx pv lo le wo di ba cp tg hi mi go) t) (va_A (xw ad ci cz nx pv lo le wo di ba cp tg hi mi go) sz)) 0 0 (va_A (xw ad ci cz nx pv lo le wo di ba cp tg hi mi go) sz) := by
  refine Met.ofW (cc := cX1_store) (maxL := 2) (ret := (some .int)) (by decide) rfl ?_
  intro p e s m args below meth c s₁ B hml hv
  obtain ⟨rfl, hsz, hP, hK, hD0⟩ := hv
  have hx := B.exec
  have hb := B.bytes
  have hr := B.returns
  have hts := atoms_spec (ws := wsX1_store) B.pre
  have hts : ∀ w ∈ lw_all, w.before _ s = true := fun w h => hts w (List.mem_cons_of_mem _ h)
  have hown : s.vm.findClass RX1 = some m.cls := findClass_of_methodNamed B.named
  have hlocks := B.notSynchronized
  subst hsz
  have hD := hD0.self (sz := s.heap.size)
  generalize hAe : va_A (xw ad ci cz nx pv lo le wo di ba cp tg hi mi go) s.heap.size = A at hD ⊢
  have hA : ∀ q : Nat, s.heap.size ≤ q → A q := fun q h => by rw [← hAe]; exact Or.inr h
  have hS : va_S A s.heap s.heap [] := va_S.rf
  have hP : va_P (dC, dI) vwCl (xw ad ci cz nx pv lo le wo di ba cp tg hi mi go) s.heap := hP
  have hl := lv_entry ([.ref (ad 0), .int v]) (n := 2) (Nat.le_of_ble_eq_true rfl)
  rw [lg_entry_eq]
  generalize (lg_sl ([.ref (ad 0), .int v]) ++ List.replicate (2 - (lg_sl ([.ref (ad 0), .int v])).length) Slot.unset).toArray = ls at hl ⊢
  have hl : lv_has ls 2 [(0, .ref (ad 0)), (1, .int v)] := hl
  refine lv_iload_n hx hb dX1_store_0 rfl (lv_at hl 1 rfl) ?_
  refine va_calli (va_runS (As := [.int v]) (rest := []) ⟨hx, hb, hml, hown, hts⟩ (metX1_isAddress l v) (va_cwS 1 hts (lw_S q74 q75 q16 q76) rfl rfl rfl (by decide +kernel) ⟨Nat.le_of_ble_eq_true rfl, Nat.le_of_ble_eq_true rfl⟩) ⟨fun a U g mk q => q, fun U hU hW => ⟨rfl, trivial⟩⟩ rfl rfl hl.1 rfl (lv_room (Nat.le_of_ble_eq_true rfl)) dX1_store_1 ⟨Nat.le_of_ble_eq_true rfl, Nat.le_of_ble_eq_true rfl⟩) hS (fun q _ h => h.elim) (fun q h => h.elim) (fun r0 u t H1 locs ht hvm hw hB hzq hkq hS => ?_)
  have hP : va_P (dC, dI) vwCl (xw ad ci cz nx pv lo le wo di ba cp tg hi mi go) H1 := hP.kept (fun k q hq => hkq q.1 ((hP k q hq).lt) (fun h => h))
  generalize H1 = H at hP hS ⊢
  rcases hw with ⟨e0, j, hj, ej⟩ | ⟨e0, hj⟩
  · subst e0
    subst ej
    refine q_if_eq (tgt := 16) hx hb (by decide) dX1_store_4 (by decide) (fun q => absurd q (by decide)) (fun _ => ?_)
    refine lv_aload_n hx hb dX1_store_7 rfl (lv_at hl 0 rfl) ?_
    refine va_get (D := (dC, dI)) (ci := 0) (v := .ref (ad 7)) (C := RX1) (T := TX1) (N := 12) hx hb hts in_X1 hown hK hP 0 rfl rfl 6 (by decide) (hts _ q36) (fun _ h9 => h9) rfl dX1_store_8 ?_
    refine lv_iload_n hx hb dX1_store_11 rfl (lv_at hl 1 rfl) ?_
    refine q_iald (v := (ba j)) hx hb hK hP 7 0 rfl rfl (by omega) (by decide) rfl dX1_store_12 ?_
    refine lv_goto (tgt := 17) hx hb dX1_store_13 (by decide) ?_
    exact W.iret (v := (ba j)) hx hb hr (fun t ht hW => ⟨⟨(ba j), (), rfl, (by rw [q_so_in hj]), by rw [ht]; exact hP, va_K.moved hW.alike hK, hD⟩, hS.F ht⟩) hS.2.2 dX1_store_17
  · subst e0
    refine q_if_eq (tgt := 16) hx hb (by decide) dX1_store_4 (by decide) (fun _ => ?_) (fun q => absurd q (by decide))
    refine lv_iconst (v := (nI 0)) hx hb dX1_store_16 (by decide) ?_
    exact W.iret (v := (nI 0)) hx hb hr (fun t ht hW => ⟨⟨(nI 0), (), rfl, (by rw [q_so_out hj]), by rw [ht]; exact hP, va_K.moved hW.alike hK, hD⟩, hS.F ht⟩) hS.2.2 dX1_store_17
/-- isDirty(v) -/
abbrev wsX1_isDirty : List Cond := ws_ yX1_isDirty cX1_isDirty 2 (some .boolean)
set_option maxHeartbeats 4000000 in
set_option maxRecDepth 100000 in
theorem metX1_isDirty (l : Launch) (dC : Nat → ClassId) (dI : Nat → Nat → Nat) (ci cz : ClassId) (ad : Nat → Nat) (sz : Nat) (nx pv lo le wo di ba : Nat → Int32) (cp tg hi mi go : Int32) {v : Int32} : Met l yX1_isDirty wsX1_isDirty ({ frames := 1, cells := 0, slots := 0, locals := 20 }) (va_Pc [.ref (ad 0), .int v] (q_Pre dC dI ci cz sz (xw ad ci cz nx pv lo le wo di ba cp tg hi mi go))) (va_Qi (fun (r : Int32) (_ : Unit) => r = q_so (q_b01 di) v) (fun (_ : Unit) t => q_Post dC dI ci cz (va_A (xw ad ci cz nx pv lo le wo di ba cp tg hi mi go) sz) (xw ad ci cz nx pv lo le wo di ba cp tg hi mi go) t) (va_A (xw ad ci cz nx pv lo le wo di ba cp tg hi mi go) sz)) 0 0 (va_A (xw ad ci cz nx pv lo le wo di ba cp tg hi mi go) sz) := by
  refine Met.ofW (cc := cX1_isDirty) (maxL := 2) (ret := (some .boolean)) (by decide) rfl ?_
  intro p e s m args below meth c s₁ B hml hv
  obtain ⟨rfl, hsz, hP, hK, hD0⟩ := hv
  have hx := B.exec
  have hb := B.bytes
  have hr := B.returns
  have hts := atoms_spec (ws := wsX1_isDirty) B.pre
  have hts : ∀ w ∈ lw_all, w.before _ s = true := fun w h => hts w (List.mem_cons_of_mem _ h)
  have hown : s.vm.findClass RX1 = some m.cls := findClass_of_methodNamed B.named
  have hlocks := B.notSynchronized
  subst hsz
  have hD := hD0.self (sz := s.heap.size)
  generalize hAe : va_A (xw ad ci cz nx pv lo le wo di ba cp tg hi mi go) s.heap.size = A at hD ⊢
  have hA : ∀ q : Nat, s.heap.size ≤ q → A q := fun q h => by rw [← hAe]; exact Or.inr h
  have hS : va_S A s.heap s.heap [] := va_S.rf
  have hP : va_P (dC, dI) vwCl (xw ad ci cz nx pv lo le wo di ba cp tg hi mi go) s.heap := hP
  have hl := lv_entry ([.ref (ad 0), .int v]) (n := 2) (Nat.le_of_ble_eq_true rfl)
  rw [lg_entry_eq]
  generalize (lg_sl ([.ref (ad 0), .int v]) ++ List.replicate (2 - (lg_sl ([.ref (ad 0), .int v])).length) Slot.unset).toArray = ls at hl ⊢
  have hl : lv_has ls 2 [(0, .ref (ad 0)), (1, .int v)] := hl
  refine lv_iload_n hx hb dX1_isDirty_0 rfl (lv_at hl 1 rfl) ?_
  refine va_calli (va_runS (As := [.int v]) (rest := []) ⟨hx, hb, hml, hown, hts⟩ (metX1_isAddress l v) (va_cwS 1 hts (lw_S q74 q75 q16 q76) rfl rfl rfl (by decide +kernel) ⟨Nat.le_of_ble_eq_true rfl, Nat.le_of_ble_eq_true rfl⟩) ⟨fun a U g mk q => q, fun U hU hW => ⟨rfl, trivial⟩⟩ rfl rfl hl.1 rfl (lv_room (Nat.le_of_ble_eq_true rfl)) dX1_isDirty_1 ⟨Nat.le_of_ble_eq_true rfl, Nat.le_of_ble_eq_true rfl⟩) hS (fun q _ h => h.elim) (fun q h => h.elim) (fun r0 u t H1 locs ht hvm hw hB hzq hkq hS => ?_)
  have hP : va_P (dC, dI) vwCl (xw ad ci cz nx pv lo le wo di ba cp tg hi mi go) H1 := hP.kept (fun k q hq => hkq q.1 ((hP k q hq).lt) (fun h => h))
  generalize H1 = H at hP hS ⊢
  rcases hw with ⟨e0, j, hj, ej⟩ | ⟨e0, hj⟩
  · subst e0
    subst ej
    refine q_if_eq (tgt := 20) hx hb (by decide) dX1_isDirty_4 (by decide) (fun q => absurd q (by decide)) (fun _ => ?_)
    refine lv_aload_n hx hb dX1_isDirty_7 rfl (lv_at hl 0 rfl) ?_
    refine va_get (D := (dC, dI)) (ci := 0) (v := .ref (ad 6)) (C := RX1) (T := TX1) (N := 12) hx hb hts in_X1 hown hK hP 0 rfl rfl 5 (by decide) (hts _ q35) (fun _ h9 => h9) rfl dX1_isDirty_8 ?_
    refine lv_iload_n hx hb dX1_isDirty_11 rfl (lv_at hl 1 rfl) ?_
    refine q_zald (v := (di j)) hx hb hK hP 6 1 rfl rfl (by omega) (by decide) rfl dX1_isDirty_12 ?_
    refine q_bf_eq (tgt := 20) hx hb dX1_isDirty_13 (by decide) (fun hc => ?_) (fun hc => ?_)
    · refine lv_iconst (v := (nI 0)) hx hb dX1_isDirty_20 (by decide) ?_
      exact W.zret (v := (nI 0)) hx hb hr rfl (fun t ht hW => ⟨⟨(nI 0), (), rfl, (by rw [q_so_in hj]; exact (if_pos hc).symm), by rw [ht]; exact hP, va_K.moved hW.alike hK, hD⟩, hS.F ht⟩) hS.2.2 dX1_isDirty_21
    · refine lv_iconst (v := (nI 1)) hx hb dX1_isDirty_16 (by decide) ?_
      refine lv_goto (tgt := 21) hx hb dX1_isDirty_17 (by decide) ?_
      exact W.zret (v := (nI 1)) hx hb hr rfl (fun t ht hW => ⟨⟨(nI 1), (), rfl, (by rw [q_so_in hj]; exact (if_neg hc).symm), by rw [ht]; exact hP, va_K.moved hW.alike hK, hD⟩, hS.F ht⟩) hS.2.2 dX1_isDirty_21
  · subst e0
    refine q_if_eq (tgt := 20) hx hb (by decide) dX1_isDirty_4 (by decide) (fun _ => ?_) (fun q => absurd q (by decide))
    refine lv_iconst (v := (nI 0)) hx hb dX1_isDirty_20 (by decide) ?_
    exact W.zret (v := (nI 0)) hx hb hr rfl (fun t ht hW => ⟨⟨(nI 0), (), rfl, (by rw [q_so_out hj]), by rw [ht]; exact hP, va_K.moved hW.alike hK, hD⟩, hS.F ht⟩) hS.2.2 dX1_isDirty_21
/-- target() -/
abbrev wsX1_target : List Cond := ws_ yX1_target cX1_target 1 (some .int)
set_option maxHeartbeats 4000000 in
set_option maxRecDepth 100000 in
theorem metX1_target (l : Launch) (dC : Nat → ClassId) (dI : Nat → Nat → Nat) (ci cz : ClassId) (ad : Nat → Nat) (sz : Nat) (nx pv lo le wo di ba : Nat → Int32) (cp tg hi mi go : Int32)  : Met l yX1_target wsX1_target ({ frames := 0, cells := 0, slots := 0, locals := 0 }) (va_Pc [.ref (ad 0)] (q_Pre dC dI ci cz sz (xw ad ci cz nx pv lo le wo di ba cp tg hi mi go))) (va_Qi (fun (r : Int32) (_ : Unit) => r = tg) (fun (_ : Unit) t => q_Post dC dI ci cz (va_A (xw ad ci cz nx pv lo le wo di ba cp tg hi mi go) sz) (xw ad ci cz nx pv lo le wo di ba cp tg hi mi go) t) (va_A (xw ad ci cz nx pv lo le wo di ba cp tg hi mi go) sz)) 0 0 (va_A (xw ad ci cz nx pv lo le wo di ba cp tg hi mi go) sz) := by
  refine Met.ofW (cc := cX1_target) (maxL := 1) (ret := (some .int)) (by decide) rfl ?_
  intro p e s m args below meth c s₁ B hml hv
  obtain ⟨rfl, hsz, hP, hK, hD0⟩ := hv
  have hx := B.exec
  have hb := B.bytes
  have hr := B.returns
  have hts := atoms_spec (ws := wsX1_target) B.pre
  have hts : ∀ w ∈ lw_all, w.before _ s = true := fun w h => hts w (List.mem_cons_of_mem _ h)
  have hown : s.vm.findClass RX1 = some m.cls := findClass_of_methodNamed B.named
  have hlocks := B.notSynchronized
  subst hsz
  have hD := hD0.self (sz := s.heap.size)
  generalize hAe : va_A (xw ad ci cz nx pv lo le wo di ba cp tg hi mi go) s.heap.size = A at hD ⊢
  have hA : ∀ q : Nat, s.heap.size ≤ q → A q := fun q h => by rw [← hAe]; exact Or.inr h
  have hS : va_S A s.heap s.heap [] := va_S.rf
  have hP : va_P (dC, dI) vwCl (xw ad ci cz nx pv lo le wo di ba cp tg hi mi go) s.heap := hP
  have hl := lv_entry ([.ref (ad 0)]) (n := 1) (Nat.le_of_ble_eq_true rfl)
  rw [lg_entry_eq]
  generalize (lg_sl ([.ref (ad 0)]) ++ List.replicate (1 - (lg_sl ([.ref (ad 0)])).length) Slot.unset).toArray = ls at hl ⊢
  have hl : lv_has ls 1 [(0, .ref (ad 0))] := hl
  refine lv_aload_n hx hb dX1_target_0 rfl (lv_at hl 0 rfl) ?_
  refine va_get (D := (dC, dI)) (ci := 0) (v := .int tg) (C := RX1) (T := TX1) (N := 12) hx hb hts in_X1 hown hK hP 0 rfl rfl 8 (by decide) (hts _ q38) (fun _ h9 => h9) rfl dX1_target_1 ?_
  exact W.iret (v := tg) hx hb hr (fun t ht hW => ⟨⟨tg, (), rfl, rfl, by rw [ht]; exact hP, va_K.moved hW.alike hK, hD⟩, hS.F ht⟩) hS.2.2 dX1_target_4
/-- hits() -/
abbrev wsX1_hits : List Cond := ws_ yX1_hits cX1_hits 1 (some .int)
set_option maxHeartbeats 4000000 in
set_option maxRecDepth 100000 in
theorem metX1_hits (l : Launch) (dC : Nat → ClassId) (dI : Nat → Nat → Nat) (ci cz : ClassId) (ad : Nat → Nat) (sz : Nat) (nx pv lo le wo di ba : Nat → Int32) (cp tg hi mi go : Int32)  : Met l yX1_hits wsX1_hits ({ frames := 0, cells := 0, slots := 0, locals := 0 }) (va_Pc [.ref (ad 0)] (q_Pre dC dI ci cz sz (xw ad ci cz nx pv lo le wo di ba cp tg hi mi go))) (va_Qi (fun (r : Int32) (_ : Unit) => r = hi) (fun (_ : Unit) t => q_Post dC dI ci cz (va_A (xw ad ci cz nx pv lo le wo di ba cp tg hi mi go) sz) (xw ad ci cz nx pv lo le wo di ba cp tg hi mi go) t) (va_A (xw ad ci cz nx pv lo le wo di ba cp tg hi mi go) sz)) 0 0 (va_A (xw ad ci cz nx pv lo le wo di ba cp tg hi mi go) sz) := by
  refine Met.ofW (cc := cX1_hits) (maxL := 1) (ret := (some .int)) (by decide) rfl ?_
  intro p e s m args below meth c s₁ B hml hv
  obtain ⟨rfl, hsz, hP, hK, hD0⟩ := hv
  have hx := B.exec
  have hb := B.bytes
  have hr := B.returns
  have hts := atoms_spec (ws := wsX1_hits) B.pre
  have hts : ∀ w ∈ lw_all, w.before _ s = true := fun w h => hts w (List.mem_cons_of_mem _ h)
  have hown : s.vm.findClass RX1 = some m.cls := findClass_of_methodNamed B.named
  have hlocks := B.notSynchronized
  subst hsz
  have hD := hD0.self (sz := s.heap.size)
  generalize hAe : va_A (xw ad ci cz nx pv lo le wo di ba cp tg hi mi go) s.heap.size = A at hD ⊢
  have hA : ∀ q : Nat, s.heap.size ≤ q → A q := fun q h => by rw [← hAe]; exact Or.inr h
  have hS : va_S A s.heap s.heap [] := va_S.rf
  have hP : va_P (dC, dI) vwCl (xw ad ci cz nx pv lo le wo di ba cp tg hi mi go) s.heap := hP
  have hl := lv_entry ([.ref (ad 0)]) (n := 1) (Nat.le_of_ble_eq_true rfl)
  rw [lg_entry_eq]
  generalize (lg_sl ([.ref (ad 0)]) ++ List.replicate (1 - (lg_sl ([.ref (ad 0)])).length) Slot.unset).toArray = ls at hl ⊢
  have hl : lv_has ls 1 [(0, .ref (ad 0))] := hl
  refine lv_aload_n hx hb dX1_hits_0 rfl (lv_at hl 0 rfl) ?_
  refine va_get (D := (dC, dI)) (ci := 0) (v := .int hi) (C := RX1) (T := TX1) (N := 12) hx hb hts in_X1 hown hK hP 0 rfl rfl 9 (by decide) (hts _ q39) (fun _ h9 => h9) rfl dX1_hits_1 ?_
  exact W.iret (v := hi) hx hb hr (fun t ht hW => ⟨⟨hi, (), rfl, rfl, by rw [ht]; exact hP, va_K.moved hW.alike hK, hD⟩, hS.F ht⟩) hS.2.2 dX1_hits_4
/-- misses() -/
abbrev wsX1_misses : List Cond := ws_ yX1_misses cX1_misses 1 (some .int)
set_option maxHeartbeats 4000000 in
set_option maxRecDepth 100000 in
theorem metX1_misses (l : Launch) (dC : Nat → ClassId) (dI : Nat → Nat → Nat) (ci cz : ClassId) (ad : Nat → Nat) (sz : Nat) (nx pv lo le wo di ba : Nat → Int32) (cp tg hi mi go : Int32)  : Met l yX1_misses wsX1_misses ({ frames := 0, cells := 0, slots := 0, locals := 0 }) (va_Pc [.ref (ad 0)] (q_Pre dC dI ci cz sz (xw ad ci cz nx pv lo le wo di ba cp tg hi mi go))) (va_Qi (fun (r : Int32) (_ : Unit) => r = mi) (fun (_ : Unit) t => q_Post dC dI ci cz (va_A (xw ad ci cz nx pv lo le wo di ba cp tg hi mi go) sz) (xw ad ci cz nx pv lo le wo di ba cp tg hi mi go) t) (va_A (xw ad ci cz nx pv lo le wo di ba cp tg hi mi go) sz)) 0 0 (va_A (xw ad ci cz nx pv lo le wo di ba cp tg hi mi go) sz) := by
  refine Met.ofW (cc := cX1_misses) (maxL := 1) (ret := (some .int)) (by decide) rfl ?_
  intro p e s m args below meth c s₁ B hml hv
  obtain ⟨rfl, hsz, hP, hK, hD0⟩ := hv
  have hx := B.exec
  have hb := B.bytes
  have hr := B.returns
  have hts := atoms_spec (ws := wsX1_misses) B.pre
  have hts : ∀ w ∈ lw_all, w.before _ s = true := fun w h => hts w (List.mem_cons_of_mem _ h)
  have hown : s.vm.findClass RX1 = some m.cls := findClass_of_methodNamed B.named
  have hlocks := B.notSynchronized
  subst hsz
  have hD := hD0.self (sz := s.heap.size)
  generalize hAe : va_A (xw ad ci cz nx pv lo le wo di ba cp tg hi mi go) s.heap.size = A at hD ⊢
  have hA : ∀ q : Nat, s.heap.size ≤ q → A q := fun q h => by rw [← hAe]; exact Or.inr h
  have hS : va_S A s.heap s.heap [] := va_S.rf
  have hP : va_P (dC, dI) vwCl (xw ad ci cz nx pv lo le wo di ba cp tg hi mi go) s.heap := hP
  have hl := lv_entry ([.ref (ad 0)]) (n := 1) (Nat.le_of_ble_eq_true rfl)
  rw [lg_entry_eq]
  generalize (lg_sl ([.ref (ad 0)]) ++ List.replicate (1 - (lg_sl ([.ref (ad 0)])).length) Slot.unset).toArray = ls at hl ⊢
  have hl : lv_has ls 1 [(0, .ref (ad 0))] := hl
  refine lv_aload_n hx hb dX1_misses_0 rfl (lv_at hl 0 rfl) ?_
  refine va_get (D := (dC, dI)) (ci := 0) (v := .int mi) (C := RX1) (T := TX1) (N := 12) hx hb hts in_X1 hown hK hP 0 rfl rfl 10 (by decide) (hts _ q40) (fun _ h9 => h9) rfl dX1_misses_1 ?_
  exact W.iret (v := mi) hx hb hr (fun t ht hW => ⟨⟨mi, (), rfl, rfl, by rw [ht]; exact hP, va_K.moved hW.alike hK, hD⟩, hS.F ht⟩) hS.2.2 dX1_misses_4
/-- gone() -/
abbrev wsX1_gone : List Cond := ws_ yX1_gone cX1_gone 1 (some .int)
set_option maxHeartbeats 4000000 in
set_option maxRecDepth 100000 in
theorem metX1_gone (l : Launch) (dC : Nat → ClassId) (dI : Nat → Nat → Nat) (ci cz : ClassId) (ad : Nat → Nat) (sz : Nat) (nx pv lo le wo di ba : Nat → Int32) (cp tg hi mi go : Int32)  : Met l yX1_gone wsX1_gone ({ frames := 0, cells := 0, slots := 0, locals := 0 }) (va_Pc [.ref (ad 0)] (q_Pre dC dI ci cz sz (xw ad ci cz nx pv lo le wo di ba cp tg hi mi go))) (va_Qi (fun (r : Int32) (_ : Unit) => r = go) (fun (_ : Unit) t => q_Post dC dI ci cz (va_A (xw ad ci cz nx pv lo le wo di ba cp tg hi mi go) sz) (xw ad ci cz nx pv lo le wo di ba cp tg hi mi go) t) (va_A (xw ad ci cz nx pv lo le wo di ba cp tg hi mi go) sz)) 0 0 (va_A (xw ad ci cz nx pv lo le wo di ba cp tg hi mi go) sz) := by
  refine Met.ofW (cc := cX1_gone) (maxL := 1) (ret := (some .int)) (by decide) rfl ?_
  intro p e s m args below meth c s₁ B hml hv
  obtain ⟨rfl, hsz, hP, hK, hD0⟩ := hv
  have hx := B.exec
  have hb := B.bytes
  have hr := B.returns
  have hts := atoms_spec (ws := wsX1_gone) B.pre
  have hts : ∀ w ∈ lw_all, w.before _ s = true := fun w h => hts w (List.mem_cons_of_mem _ h)
  have hown : s.vm.findClass RX1 = some m.cls := findClass_of_methodNamed B.named
  have hlocks := B.notSynchronized
  subst hsz
  have hD := hD0.self (sz := s.heap.size)
  generalize hAe : va_A (xw ad ci cz nx pv lo le wo di ba cp tg hi mi go) s.heap.size = A at hD ⊢
  have hA : ∀ q : Nat, s.heap.size ≤ q → A q := fun q h => by rw [← hAe]; exact Or.inr h
  have hS : va_S A s.heap s.heap [] := va_S.rf
  have hP : va_P (dC, dI) vwCl (xw ad ci cz nx pv lo le wo di ba cp tg hi mi go) s.heap := hP
  have hl := lv_entry ([.ref (ad 0)]) (n := 1) (Nat.le_of_ble_eq_true rfl)
  rw [lg_entry_eq]
  generalize (lg_sl ([.ref (ad 0)]) ++ List.replicate (1 - (lg_sl ([.ref (ad 0)])).length) Slot.unset).toArray = ls at hl ⊢
  have hl : lv_has ls 1 [(0, .ref (ad 0))] := hl
  refine lv_aload_n hx hb dX1_gone_0 rfl (lv_at hl 0 rfl) ?_
  refine va_get (D := (dC, dI)) (ci := 0) (v := .int go) (C := RX1) (T := TX1) (N := 12) hx hb hts in_X1 hown hK hP 0 rfl rfl 11 (by decide) (hts _ q41) (fun _ h9 => h9) rfl dX1_gone_1 ?_
  exact W.iret (v := go) hx hb hr (fun t ht hW => ⟨⟨go, (), rfl, rfl, by rw [ht]; exact hP, va_K.moved hW.alike hK, hD⟩, hS.F ht⟩) hS.2.2 dX1_gone_4
/-- length(v) -/
abbrev wsX1_length : List Cond := ws_ yX1_length cX1_length 2 (some .int)
set_option maxHeartbeats 4000000 in
set_option maxRecDepth 100000 in
theorem metX1_length (l : Launch) (dC : Nat → ClassId) (dI : Nat → Nat → Nat) (ci cz : ClassId) (ad : Nat → Nat) (sz : Nat) (nx pv lo le wo di ba : Nat → Int32) (cp tg hi mi go : Int32) {L : Nat → List Nat} {v : Int32} (hR : x_rep L nx pv lo le) : Met l yX1_length wsX1_length ({ frames := 0, cells := 0, slots := 0, locals := 0 }) (va_Pc [.ref (ad 0), .int v] (q_Pre dC dI ci cz sz (xw ad ci cz nx pv lo le wo di ba cp tg hi mi go))) (va_Qi (fun (r : Int32) (_ : Unit) => r = q_le L v) (fun (_ : Unit) t => q_Post dC dI ci cz (va_A (xw ad ci cz nx pv lo le wo di ba cp tg hi mi go) sz) (xw ad ci cz nx pv lo le wo di ba cp tg hi mi go) t) (va_A (xw ad ci cz nx pv lo le wo di ba cp tg hi mi go) sz)) 0 0 (va_A (xw ad ci cz nx pv lo le wo di ba cp tg hi mi go) sz) := by
  refine Met.ofW (cc := cX1_length) (maxL := 2) (ret := (some .int)) (by decide) rfl ?_
  intro p e s m args below meth c s₁ B hml hv
  obtain ⟨rfl, hsz, hP, hK, hD0⟩ := hv
  have hx := B.exec
  have hb := B.bytes
  have hr := B.returns
  have hts := atoms_spec (ws := wsX1_length) B.pre
  have hts : ∀ w ∈ lw_all, w.before _ s = true := fun w h => hts w (List.mem_cons_of_mem _ h)
  have hown : s.vm.findClass RX1 = some m.cls := findClass_of_methodNamed B.named
  have hlocks := B.notSynchronized
  subst hsz
  have hD := hD0.self (sz := s.heap.size)
  generalize hAe : va_A (xw ad ci cz nx pv lo le wo di ba cp tg hi mi go) s.heap.size = A at hD ⊢
  have hA : ∀ q : Nat, s.heap.size ≤ q → A q := fun q h => by rw [← hAe]; exact Or.inr h
  have hS : va_S A s.heap s.heap [] := va_S.rf
  have hP : va_P (dC, dI) vwCl (xw ad ci cz nx pv lo le wo di ba cp tg hi mi go) s.heap := hP
  have hl := lv_entry ([.ref (ad 0), .int v]) (n := 2) (Nat.le_of_ble_eq_true rfl)
  rw [lg_entry_eq]
  generalize (lg_sl ([.ref (ad 0), .int v]) ++ List.replicate (2 - (lg_sl ([.ref (ad 0), .int v])).length) Slot.unset).toArray = ls at hl ⊢
  have hl : lv_has ls 2 [(0, .ref (ad 0)), (1, .int v)] := hl
  refine lv_iload_n hx hb dX1_length_0 rfl (lv_at hl 1 rfl) ?_
  refine lv_iconst (v := (nI 1)) hx hb dX1_length_1 (by decide) ?_
  refine lv_icmp_lt (tgt := 10) hx hb dX1_length_2 (by decide) (fun hc => ?_) (fun hc => ?_)
  · refine lv_iconst (v := (-1)) hx hb dX1_length_10 (by decide) ?_
    refine lv_goto (tgt := 20) hx hb dX1_length_11 (by decide) ?_
    exact W.iret (v := (-1)) hx hb hr (fun t ht hW => ⟨⟨(-1), (), rfl, (by rw [q_le_lo hc]), by rw [ht]; exact hP, va_K.moved hW.alike hK, hD⟩, hS.F ht⟩) hS.2.2 dX1_length_20
  · refine lv_iload_n hx hb dX1_length_5 rfl (lv_at hl 1 rfl) ?_
    refine lv_iconst (v := (nI 4)) hx hb dX1_length_6 (by decide) ?_
    refine lv_icmp_le (tgt := 14) hx hb dX1_length_7 (by decide) (fun hc2 => ?_) (fun hc2 => ?_)
    · obtain ⟨j, hj1, hj4, ej⟩ := q_14 hc hc2
      subst ej
      refine lv_aload_n hx hb dX1_length_14 rfl (lv_at hl 0 rfl) ?_
      refine va_get (D := (dC, dI)) (ci := 0) (v := .ref (ad 4)) (C := RX1) (T := TX1) (N := 12) hx hb hts in_X1 hown hK hP 0 rfl rfl 3 (by decide) (hts _ q33) (fun _ h9 => h9) rfl dX1_length_15 ?_
      refine lv_iload_n hx hb dX1_length_18 rfl (lv_at hl 1 rfl) ?_
      refine q_iald (v := (nI ((L j).length))) hx hb hK hP 4 0 rfl rfl (by omega) (by decide) (hR.2.1 j hj1 hj4) dX1_length_19 ?_
      exact W.iret (v := (nI ((L j).length))) hx hb hr (fun t ht hW => ⟨⟨(nI ((L j).length)), (), rfl, (by rw [q_le_in hj1 hj4]), by rw [ht]; exact hP, va_K.moved hW.alike hK, hD⟩, hS.F ht⟩) hS.2.2 dX1_length_20
    · refine lv_iconst (v := (-1)) hx hb dX1_length_10 (by decide) ?_
      refine lv_goto (tgt := 20) hx hb dX1_length_11 (by decide) ?_
      exact W.iret (v := (-1)) hx hb hr (fun t ht hW => ⟨⟨(-1), (), rfl, (by rw [q_le_hi hc2]), by rw [ht]; exact hP, va_K.moved hW.alike hK, hD⟩, hS.F ht⟩) hS.2.2 dX1_length_20
/-- at(v, x) -/
abbrev wsX1_at : List Cond := ws_ yX1_at cX1_at 5 (some .int)
set_option maxHeartbeats 4000000 in
set_option maxRecDepth 100000 in
theorem metX1_at (l : Launch) (dC : Nat → ClassId) (dI : Nat → Nat → Nat) (ci cz : ClassId) (ad : Nat → Nat) (sz : Nat) (nx pv lo le wo di ba : Nat → Int32) (cp tg hi mi go : Int32) {L : Nat → List Nat} {v x : Int32} (hok : q_ok L) (hR : x_rep L nx pv lo le) : Met l yX1_at wsX1_at ({ frames := 0, cells := 0, slots := 0, locals := 0 }) (va_Pc [.ref (ad 0), .int v, .int x] (q_Pre dC dI ci cz sz (xw ad ci cz nx pv lo le wo di ba cp tg hi mi go))) (va_Qi (fun (r : Int32) (_ : Unit) => r = q_at L v x) (fun (_ : Unit) t => q_Post dC dI ci cz (va_A (xw ad ci cz nx pv lo le wo di ba cp tg hi mi go) sz) (xw ad ci cz nx pv lo le wo di ba cp tg hi mi go) t) (va_A (xw ad ci cz nx pv lo le wo di ba cp tg hi mi go) sz)) 0 0 (va_A (xw ad ci cz nx pv lo le wo di ba cp tg hi mi go) sz) := by
  refine Met.ofW (cc := cX1_at) (maxL := 5) (ret := (some .int)) (by decide) rfl ?_
  intro p e s m args below meth c s₁ B hml hv
  obtain ⟨rfl, hsz, hP, hK, hD0⟩ := hv
  have hx := B.exec
  have hb := B.bytes
  have hr := B.returns
  have hts := atoms_spec (ws := wsX1_at) B.pre
  have hts : ∀ w ∈ lw_all, w.before _ s = true := fun w h => hts w (List.mem_cons_of_mem _ h)
  have hown : s.vm.findClass RX1 = some m.cls := findClass_of_methodNamed B.named
  have hlocks := B.notSynchronized
  subst hsz
  have hD := hD0.self (sz := s.heap.size)
  generalize hAe : va_A (xw ad ci cz nx pv lo le wo di ba cp tg hi mi go) s.heap.size = A at hD ⊢
  have hA : ∀ q : Nat, s.heap.size ≤ q → A q := fun q h => by rw [← hAe]; exact Or.inr h
  have hS : va_S A s.heap s.heap [] := va_S.rf
  have hP : va_P (dC, dI) vwCl (xw ad ci cz nx pv lo le wo di ba cp tg hi mi go) s.heap := hP
  have hl := lv_entry ([.ref (ad 0), .int v, .int x]) (n := 5) (Nat.le_of_ble_eq_true rfl)
  rw [lg_entry_eq]
  generalize (lg_sl ([.ref (ad 0), .int v, .int x]) ++ List.replicate (5 - (lg_sl ([.ref (ad 0), .int v, .int x])).length) Slot.unset).toArray = ls at hl ⊢
  have hl : lv_has ls 5 [(0, .ref (ad 0)), (1, .int v), (2, .int x)] := hl
  refine lv_iload_n hx hb dX1_at_0 rfl (lv_at hl 1 rfl) ?_
  refine lv_iconst (v := (nI 1)) hx hb dX1_at_1 (by decide) ?_
  refine lv_icmp_lt (tgt := 24) hx hb dX1_at_2 (by decide) (fun hc => ?_) (fun hc => ?_)
  · refine lv_iconst (v := (-1)) hx hb dX1_at_24 (by decide) ?_
    exact W.iret (v := (-1)) hx hb hr (fun t ht hW => ⟨⟨(-1), (), rfl, (by rw [q_at_1 hc]), by rw [ht]; exact hP, va_K.moved hW.alike hK, hD⟩, hS.F ht⟩) hS.2.2 dX1_at_25
  · refine lv_iload_n hx hb dX1_at_5 rfl (lv_at hl 1 rfl) ?_
    refine lv_iconst (v := (nI 4)) hx hb dX1_at_6 (by decide) ?_
    refine lv_icmp_gt (tgt := 24) hx hb dX1_at_7 (by decide) (fun hc2 => ?_) (fun hc2 => ?_)
    · refine lv_iconst (v := (-1)) hx hb dX1_at_24 (by decide) ?_
      exact W.iret (v := (-1)) hx hb hr (fun t ht hW => ⟨⟨(-1), (), rfl, (by rw [q_at_4 hc2]), by rw [ht]; exact hP, va_K.moved hW.alike hK, hD⟩, hS.F ht⟩) hS.2.2 dX1_at_25
    · refine lv_iload_n hx hb dX1_at_10 rfl (lv_at hl 2 rfl) ?_
      refine lv_if_lt (tgt := 24) hx hb dX1_at_11 (by decide) (fun hc3 => ?_) (fun hc3 => ?_)
      · refine lv_iconst (v := (-1)) hx hb dX1_at_24 (by decide) ?_
        exact W.iret (v := (-1)) hx hb hr (fun t ht hW => ⟨⟨(-1), (), rfl, (by rw [q_at_0 hc3]), by rw [ht]; exact hP, va_K.moved hW.alike hK, hD⟩, hS.F ht⟩) hS.2.2 dX1_at_25
      · obtain ⟨j, hj1, hj4, ej⟩ := q_14 hc (q_gt_le hc2)
        subst ej
        have hlj := q_L64 hok j
        refine lv_iload_n hx hb dX1_at_14 rfl (lv_at hl 2 rfl) ?_
        refine lv_aload_n hx hb dX1_at_15 rfl (lv_at hl 0 rfl) ?_
        refine va_get (D := (dC, dI)) (ci := 0) (v := .ref (ad 4)) (C := RX1) (T := TX1) (N := 12) hx hb hts in_X1 hown hK hP 0 rfl rfl 3 (by decide) (hts _ q33) (fun _ h9 => h9) rfl dX1_at_16 ?_
        refine lv_iload_n hx hb dX1_at_19 rfl (lv_at hl 1 rfl) ?_
        refine q_iald (v := (nI ((L j).length))) hx hb hK hP 4 0 rfl rfl (by omega) (by decide) (hR.2.1 j hj1 hj4) dX1_at_20 ?_
        refine lv_icmp_lt (tgt := 26) hx hb dX1_at_21 (by decide) (fun hc4 => ?_) (fun hc4 => ?_)
        · obtain ⟨i, hi9, ei⟩ := q_lt_ix hc3 hc4 (by omega)
          subst ei
          have loop : ∀ (n t b : Nat), t ≤ i → i + 1 ≤ t + n → (L j)[t]? = some b → ∀ (ls : Array Slot), lv_has ls 5 [(4, .int (nI t)), (3, .int (nI b)), (0, .ref (ad 0)), (1, .int (nI j)), (2, .int (nI i))] → W p l e (headSpec wsX1_at ({ frames := 0, cells := 0, slots := 0, locals := 0 })).room s m ([.ref (ad 0), .int (nI j), .int (nI i)] : List Value).toArray below meth c s.heap [] 0 0 (MQ below (va_Qi (fun (r : Int32) (_ : Unit) => r = q_at L (nI j) (nI i)) (fun (_ : Unit) t => q_Post dC dI ci cz A (xw ad ci cz nx pv lo le wo di ba cp tg hi mi go) t) A) ([.ref (ad 0), .int (nI j), .int (nI i)] : List Value).toArray s 0 0 A) (F0 m 39 ls []) := by
            intro n
            induction n with
            | zero => intro t b h1 h2; exact absurd h2 (by omega)
            | succ n ih =>
              intro t b ht1 ht2 hb9 ls hl
              refine lv_iload hx hb dX1_at_39 (lv_at hl 0 rfl) ?_
              refine lv_iload_n hx hb dX1_at_41 rfl (lv_at hl 4 rfl) ?_
              refine q_icmp_ge (tgt := 58) hx hb (by omega) (by omega) dX1_at_42 (by decide) (fun hc5 => ?_) (fun hc5 => ?_)
              · refine lv_iload_n hx hb dX1_at_58 rfl (lv_at hl 1 rfl) ?_
                have hb8 : (L j)[i]? = some b := by rw [show i = t by omega]; exact hb9
                exact W.iret (v := (nI b)) hx hb hr (fun t ht hW => ⟨⟨(nI b), (), rfl, (by rw [q_at_in hj1 hj4 (by omega) hb8]), by rw [ht]; exact hP, va_K.moved hW.alike hK, hD⟩, hS.F ht⟩) hS.2.2 dX1_at_59
              · have hbb := (hok.2.1 j b (List.mem_of_getElem? hb9)).1
                obtain ⟨d9, hd9⟩ : ∃ d, (L j)[t + 1]? = some d := ⟨_, List.getElem?_eq_getElem (by omega)⟩
                refine lv_aload_n hx hb dX1_at_45 rfl (lv_at hl 2 rfl) ?_
                refine va_get (D := (dC, dI)) (ci := 0) (v := .ref (ad 1)) (C := RX1) (T := TX1) (N := 12) hx hb hts in_X1 hown hK hP 0 rfl rfl 0 (by decide) (hts _ q30) (fun _ h9 => h9) rfl dX1_at_46 ?_
                refine lv_iload_n hx hb dX1_at_49 rfl (lv_at hl 1 rfl) ?_
                refine q_iald (v := (nI d9)) hx hb hK hP 1 0 rfl rfl (by omega) (by decide) (x_next hR hj1 hj4 hb9 hd9) dX1_at_50 ?_
                refine lv_istore_n (lv' := [(3, .int (nI d9)), (4, .int (nI t)), (0, .ref (ad 0)), (1, .int (nI j)), (2, .int (nI i))]) hx hb dX1_at_51 rfl hl (by decide) rfl (fun ls hl => ?_)
                refine lv_iinc (v := (nI (t + 1))) (lv' := [(4, .int (nI (t + 1))), (3, .int (nI d9)), (0, .ref (ad 0)), (1, .int (nI j)), (2, .int (nI i))]) hx hb dX1_at_52 hl (k := 1) rfl (q_inc1 t) (by decide) rfl (fun ls hl => ?_)
                refine lv_goto (tgt := 39) hx hb dX1_at_55 (by decide) ?_
                exact ih (t + 1) d9 (by omega) (by omega) hd9 ls (lv_sub hl [0, 1, 2, 3, 4] rfl)
          obtain ⟨b0, hb0⟩ : ∃ b, (L j)[0]? = some b := ⟨_, List.getElem?_eq_getElem (by omega)⟩
          refine lv_aload_n hx hb dX1_at_26 rfl (lv_at hl 0 rfl) ?_
          refine va_get (D := (dC, dI)) (ci := 0) (v := .ref (ad 1)) (C := RX1) (T := TX1) (N := 12) hx hb hts in_X1 hown hK hP 0 rfl rfl 0 (by decide) (hts _ q30) (fun _ h9 => h9) rfl dX1_at_27 ?_
          refine lv_bipush (v := (nI 64)) hx hb dX1_at_30 (by decide) ?_
          refine lv_iload_n hx hb dX1_at_32 rfl (lv_at hl 1 rfl) ?_
          refine q_iadd hx hb dX1_at_33 ?_
          refine q_iald (v := (nI b0)) hx hb hK hP 1 0 rfl rfl (by omega) (by decide) (x_first hR hj1 hj4 hb0) dX1_at_34 ?_
          refine lv_istore_n (lv' := [(3, .int (nI b0)), (0, .ref (ad 0)), (1, .int (nI j)), (2, .int (nI i))]) hx hb dX1_at_35 rfl hl (by decide) rfl (fun ls hl => ?_)
          refine lv_iconst (v := (nI 0)) hx hb dX1_at_36 (by decide) ?_
          refine lv_istore (lv' := [(4, .int (nI 0)), (3, .int (nI b0)), (0, .ref (ad 0)), (1, .int (nI j)), (2, .int (nI i))]) hx hb dX1_at_37 hl (by decide) rfl (fun ls hl => ?_)
          exact loop (i + 1) 0 b0 (by omega) (by omega) hb0 ls (lv_sub hl [0, 1, 2, 3, 4] rfl)
        · refine lv_iconst (v := (-1)) hx hb dX1_at_24 (by decide) ?_
          exact W.iret (v := (-1)) hx hb hr (fun t ht hW => ⟨⟨(-1), (), rfl, (by rw [q_at_n hj1 hj4 hc4]), by rw [ht]; exact hP, va_K.moved hW.alike hK, hD⟩, hS.F ht⟩) hS.2.2 dX1_at_25
end
section
/-- flush() -/
abbrev wsX1_flush : List Cond := ws_ yX1_flush cX1_flush 3 (some .int)
set_option maxHeartbeats 4000000 in
set_option maxRecDepth 100000 in
theorem metX1_flush (l : Launch) (dC : Nat → ClassId) (dI : Nat → Nat → Nat) (ci cz : ClassId) (ad : Nat → Nat) (sz : Nat) (nx pv lo le wo di ba : Nat → Int32) (cp tg hi mi go : Int32)  : Met l yX1_flush wsX1_flush ({ frames := 0, cells := 0, slots := 0, locals := 0 }) (va_Pc [.ref (ad 0)] (q_Pre dC dI ci cz sz (xw ad ci cz nx pv lo le wo di ba cp tg hi mi go))) (va_Qi (fun (r : Int32) (_ : Unit) => r = q_ct di 64) (fun (_ : Unit) t => q_Post dC dI ci cz (va_A (xw ad ci cz nx pv lo le wo di ba cp tg hi mi go) sz) (xw ad ci cz nx pv lo le wo (q_z 64 di) (q_fb 64 wo ba di) cp tg hi mi go) t) (va_A (xw ad ci cz nx pv lo le wo di ba cp tg hi mi go) sz)) 0 0 (va_A (xw ad ci cz nx pv lo le wo di ba cp tg hi mi go) sz) := by
  refine Met.ofW (cc := cX1_flush) (maxL := 3) (ret := (some .int)) (by decide) rfl ?_
  intro p e s m args below meth c s₁ B hml hv
  obtain ⟨rfl, hsz, hP, hK, hD0⟩ := hv
  have hx := B.exec
  have hb := B.bytes
  have hr := B.returns
  have hts := atoms_spec (ws := wsX1_flush) B.pre
  have hts : ∀ w ∈ lw_all, w.before _ s = true := fun w h => hts w (List.mem_cons_of_mem _ h)
  have hown : s.vm.findClass RX1 = some m.cls := findClass_of_methodNamed B.named
  have hlocks := B.notSynchronized
  subst hsz
  have hD := hD0.self (sz := s.heap.size)
  generalize hAe : va_A (xw ad ci cz nx pv lo le wo di ba cp tg hi mi go) s.heap.size = A at hD ⊢
  have hA : ∀ q : Nat, s.heap.size ≤ q → A q := fun q h => by rw [← hAe]; exact Or.inr h
  have hS : va_S A s.heap s.heap [] := va_S.rf
  have hP : va_P (dC, dI) vwCl (xw ad ci cz nx pv lo le wo di ba cp tg hi mi go) s.heap := hP
  have hl := lv_entry ([.ref (ad 0)]) (n := 3) (Nat.le_of_ble_eq_true rfl)
  rw [lg_entry_eq]
  generalize (lg_sl ([.ref (ad 0)]) ++ List.replicate (3 - (lg_sl ([.ref (ad 0)])).length) Slot.unset).toArray = ls at hl ⊢
  have hl : lv_has ls 3 [(0, .ref (ad 0))] := hl
  have loop : ∀ (n i : Nat), i ≤ 64 → 64 + 1 ≤ i + n → ∀ (H : Heap) (locs : List Loc) (ls : Array Slot), va_P (dC, dI) vwCl (xw ad ci cz nx pv lo le wo (q_z i di) (q_fb i wo ba di) cp tg hi mi go) H → va_D A (xw ad ci cz nx pv lo le wo (q_z i di) (q_fb i wo ba di) cp tg hi mi go) → va_S A s.heap H locs → lv_has ls 3 [(2, .int (nI i)), (1, .int (q_ct di i)), (0, .ref (ad 0))] → W p l e (headSpec wsX1_flush ({ frames := 0, cells := 0, slots := 0, locals := 0 })).room s m ([.ref (ad 0)] : List Value).toArray below meth c H locs 0 0 (MQ below (va_Qi (fun (r : Int32) (_ : Unit) => r = q_ct di 64) (fun (_ : Unit) t => q_Post dC dI ci cz A (xw ad ci cz nx pv lo le wo (q_z 64 di) (q_fb 64 wo ba di) cp tg hi mi go) t) A) ([.ref (ad 0)] : List Value).toArray s 0 0 A) (F0 m 4 ls []) := by
    intro n
    induction n with
    | zero => intro i h1 h2; exact absurd h2 (by omega)
    | succ n ih =>
      intro i hi9 hn9 H locs ls hP hD hS hl
      refine lv_iload_n hx hb dX1_flush_4 rfl (lv_at hl 0 rfl) ?_
      refine lv_bipush (v := (nI 64)) hx hb dX1_flush_5 (by decide) ?_
      refine q_icmp_ge (tgt := 50) hx hb (by omega) (by omega) dX1_flush_7 (by decide) (fun hc => ?_) (fun hc => ?_)
      · obtain rfl : i = 64 := by omega
        refine lv_iload_n hx hb dX1_flush_50 rfl (lv_at hl 1 rfl) ?_
        exact W.iret (v := (q_ct di 64)) hx hb hr (fun t ht hW => ⟨⟨(q_ct di 64), (), rfl, rfl, by rw [ht]; exact hP, va_K.moved hW.alike hK, hD⟩, hS.F ht⟩) hS.2.2 dX1_flush_51
      · refine lv_aload_n hx hb dX1_flush_10 rfl (lv_at hl 2 rfl) ?_
        refine va_get (D := (dC, dI)) (ci := 0) (v := .ref (ad 6)) (C := RX1) (T := TX1) (N := 12) hx hb hts in_X1 hown hK hP 0 rfl rfl 5 (by decide) (hts _ q35) (fun _ h9 => h9) rfl dX1_flush_11 ?_
        refine lv_iload_n hx hb dX1_flush_14 rfl (lv_at hl 0 rfl) ?_
        refine q_zald (v := (di i)) hx hb hK hP 6 1 rfl rfl (by omega) (by decide) q_z_at dX1_flush_15 ?_
        refine q_bf_ne (tgt := 22) hx hb dX1_flush_16 (by decide) (fun hd => ?_) (fun hd => ?_)
        · refine lv_aload_n hx hb dX1_flush_22 rfl (lv_at hl 2 rfl) ?_
          refine va_get (D := (dC, dI)) (ci := 0) (v := .ref (ad 7)) (C := RX1) (T := TX1) (N := 12) hx hb hts in_X1 hown hK hP 0 rfl rfl 6 (by decide) (hts _ q36) (fun _ h9 => h9) rfl dX1_flush_23 ?_
          refine lv_iload_n hx hb dX1_flush_26 rfl (lv_at hl 0 rfl) ?_
          refine lv_aload_n hx hb dX1_flush_27 rfl (lv_at hl 2 rfl) ?_
          refine va_get (D := (dC, dI)) (ci := 0) (v := .ref (ad 5)) (C := RX1) (T := TX1) (N := 12) hx hb hts in_X1 hown hK hP 0 rfl rfl 4 (by decide) (hts _ q34) (fun _ h9 => h9) rfl dX1_flush_28 ?_
          refine lv_iload_n hx hb dX1_flush_31 rfl (lv_at hl 0 rfl) ?_
          refine q_iald (v := (wo i)) hx hb hK hP 5 0 rfl rfl (by omega) (by decide) rfl dX1_flush_32 ?_
          refine q_iast (g := (q_fb (i + 1) wo ba di)) hx hb hK hP hD hS 7 0 rfl rfl (by omega) (by decide) (q_fb_y hd) dX1_flush_33 (fun H locs hP hD hS => ?_)
          have hP : va_P (dC, dI) vwCl (xw ad ci cz nx pv lo le wo (q_z i di) (q_fb (i + 1) wo ba di) cp tg hi mi go) H := hP
          have hD : va_D A (xw ad ci cz nx pv lo le wo (q_z i di) (q_fb (i + 1) wo ba di) cp tg hi mi go) := hD
          refine lv_aload_n hx hb dX1_flush_34 rfl (lv_at hl 2 rfl) ?_
          refine va_get (D := (dC, dI)) (ci := 0) (v := .ref (ad 6)) (C := RX1) (T := TX1) (N := 12) hx hb hts in_X1 hown hK hP 0 rfl rfl 5 (by decide) (hts _ q35) (fun _ h9 => h9) rfl dX1_flush_35 ?_
          refine lv_iload_n hx hb dX1_flush_38 rfl (lv_at hl 0 rfl) ?_
          refine lv_iconst (v := (nI 0)) hx hb dX1_flush_39 (by decide) ?_
          refine q_zast (g := (q_z (i + 1) di)) hx hb hK hP hD hS 6 1 rfl rfl (by omega) (by decide) (by decide) (q_z_s di i) dX1_flush_40 (fun H locs hP hD hS => ?_)
          have hP : va_P (dC, dI) vwCl (xw ad ci cz nx pv lo le wo (q_z (i + 1) di) (q_fb (i + 1) wo ba di) cp tg hi mi go) H := hP
          have hD : va_D A (xw ad ci cz nx pv lo le wo (q_z (i + 1) di) (q_fb (i + 1) wo ba di) cp tg hi mi go) := hD
          refine lv_iinc (v := (q_ct di (i + 1))) (lv' := [(1, .int (q_ct di (i + 1))), (2, .int (nI i)), (0, .ref (ad 0))]) hx hb dX1_flush_41 hl (k := 1) rfl (by show _ = (if di i = nI 0 then q_ct di i else q_ct di i + nI 1); rw [if_neg hd]; rfl) (by decide) rfl (fun ls hl => ?_)
          refine lv_iinc (v := (nI (i + 1))) (lv' := [(2, .int (nI (i + 1))), (1, .int (q_ct di (i + 1))), (0, .ref (ad 0))]) hx hb dX1_flush_44 hl (k := 1) rfl (q_inc1 i) (by decide) rfl (fun ls hl => ?_)
          refine lv_goto (tgt := 4) hx hb dX1_flush_47 (by decide) ?_
          exact ih (i + 1) (by omega) (by omega) H locs ls hP hD hS (lv_sub hl [0, 1, 2] rfl)
        · have ect : q_ct di i = q_ct di (i + 1) := by show _ = (if di i = nI 0 then q_ct di i else q_ct di i + nI 1); rw [if_pos hd]
          rw [q_fb_n (wo := wo) (ba := ba) hd, q_z_n hd] at hP hD
          rw [ect] at hl
          refine lv_goto (tgt := 44) hx hb dX1_flush_19 (by decide) ?_
          refine lv_iinc (v := (nI (i + 1))) (lv' := [(2, .int (nI (i + 1))), (1, .int (q_ct di (i + 1))), (0, .ref (ad 0))]) hx hb dX1_flush_44 hl (k := 0) rfl (q_inc1 i) (by decide) rfl (fun ls hl => ?_)
          refine lv_goto (tgt := 4) hx hb dX1_flush_47 (by decide) ?_
          exact ih (i + 1) (by omega) (by omega) H locs ls hP hD hS (lv_sub hl [0, 1, 2] rfl)
  refine lv_iconst (v := (nI 0)) hx hb dX1_flush_0 (by decide) ?_
  refine lv_istore_n (lv' := [(1, .int (nI 0)), (0, .ref (ad 0))]) hx hb dX1_flush_1 rfl hl (by decide) rfl (fun ls hl => ?_)
  refine lv_iconst (v := (nI 0)) hx hb dX1_flush_2 (by decide) ?_
  refine lv_istore_n (lv' := [(2, .int (nI 0)), (1, .int (nI 0)), (0, .ref (ad 0))]) hx hb dX1_flush_3 rfl hl (by decide) rfl (fun ls hl => ?_)
  exact loop 65 0 (by omega) (by omega) _ _ ls (by rw [q_fb_0, q_z_0]; exact hP) (by rw [q_fb_0, q_z_0]; exact hD) hS (lv_sub hl [0, 1, 2] rfl)
/-- init() -/
abbrev wsX1_init_2 : List Cond := ws_ yX1_init_2 cX1_init_2 2 none
set_option maxHeartbeats 4000000 in
set_option maxRecDepth 100000 in
theorem metX1_init_2 (l : Launch) (dC : Nat → ClassId) (dI : Nat → Nat → Nat) (ci cz : ClassId) (ad : Nat → Nat) (sz : Nat) (nx pv lo le wo di ba : Nat → Int32) (cp tg hi mi go : Int32)  : Met l yX1_init_2 wsX1_init_2 ({ frames := 0, cells := 0, slots := 0, locals := 0 }) (va_Pc [.ref (ad 0)] (q_Pre dC dI ci cz sz (xw ad ci cz nx pv lo le wo di ba cp tg hi mi go))) (va_Qv (fun u : x_U => x_rep q_L0 u.1 u.2.1 u.2.2.1 u.2.2.2) (xB dC dI ci cz (va_A (xw ad ci cz nx pv lo le wo di ba cp tg hi mi go) sz) ad (q_z 64 wo) (q_z 64 di) (q_z 64 ba) cp (nI 0) (nI 0) (nI 0) (nI 0)) (va_A (xw ad ci cz nx pv lo le wo di ba cp tg hi mi go) sz)) 0 0 (va_A (xw ad ci cz nx pv lo le wo di ba cp tg hi mi go) sz) := by
  refine Met.ofW (cc := cX1_init_2) (maxL := 2) (ret := none) (by decide) rfl ?_
  intro p e s m args below meth c s₁ B hml hv
  obtain ⟨rfl, hsz, hP, hK, hD0⟩ := hv
  have hx := B.exec
  have hb := B.bytes
  have hr := B.returns
  have hts := atoms_spec (ws := wsX1_init_2) B.pre
  have hts : ∀ w ∈ lw_all, w.before _ s = true := fun w h => hts w (List.mem_cons_of_mem _ h)
  have hown : s.vm.findClass RX1 = some m.cls := findClass_of_methodNamed B.named
  have hlocks := B.notSynchronized
  subst hsz
  have hD := hD0.self (sz := s.heap.size)
  generalize hAe : va_A (xw ad ci cz nx pv lo le wo di ba cp tg hi mi go) s.heap.size = A at hD ⊢
  have hA : ∀ q : Nat, s.heap.size ≤ q → A q := fun q h => by rw [← hAe]; exact Or.inr h
  have hS : va_S A s.heap s.heap [] := va_S.rf
  have hP : va_P (dC, dI) vwCl (xw ad ci cz nx pv lo le wo di ba cp tg hi mi go) s.heap := hP
  have hl := lv_entry ([.ref (ad 0)]) (n := 2) (Nat.le_of_ble_eq_true rfl)
  rw [lg_entry_eq]
  generalize (lg_sl ([.ref (ad 0)]) ++ List.replicate (2 - (lg_sl ([.ref (ad 0)])).length) Slot.unset).toArray = ls at hl ⊢
  have hl : lv_has ls 2 [(0, .ref (ad 0))] := hl
  have loop2 : ∀ (n i : Nat), i ≤ 64 → 64 + 1 ≤ i + n → ∀ (H : Heap) (locs : List Loc) (ls : Array Slot), va_P (dC, dI) vwCl (xw ad ci cz (q_hd 5 nx) (q_hd 5 pv) (q_z i lo) (q_z 5 le) (q_z i wo) (q_z i di) (q_z i ba) cp tg hi mi go) H → va_D A (xw ad ci cz (q_hd 5 nx) (q_hd 5 pv) (q_z i lo) (q_z 5 le) (q_z i wo) (q_z i di) (q_z i ba) cp tg hi mi go) → va_S A s.heap H locs → lv_has ls 2 [(1, .int (nI i)), (0, .ref (ad 0))] → W p l e (headSpec wsX1_init_2 ({ frames := 0, cells := 0, slots := 0, locals := 0 })).room s m ([.ref (ad 0)] : List Value).toArray below meth c H locs 0 0 (MQ below (va_Qv (fun u : x_U => x_rep q_L0 u.1 u.2.1 u.2.2.1 u.2.2.2) (xB dC dI ci cz A ad (q_z 64 wo) (q_z 64 di) (q_z 64 ba) cp (nI 0) (nI 0) (nI 0) (nI 0)) A) ([.ref (ad 0)] : List Value).toArray s 0 0 A) (F0 m 48 ls []) := by
    intro n
    induction n with
    | zero => intro i h1 h2; exact absurd h2 (by omega)
    | succ n ih =>
      intro i hi9 hn9 H locs ls hP hD hS hl
      refine lv_iload_n hx hb dX1_init_2_48 rfl (lv_at hl 0 rfl) ?_
      refine lv_bipush (v := (nI 64)) hx hb dX1_init_2_49 (by decide) ?_
      refine q_icmp_ge (tgt := 88) hx hb (by omega) (by omega) dX1_init_2_51 (by decide) (fun hc => ?_) (fun hc => ?_)
      · obtain rfl : i = 64 := by omega
        refine lv_aload_n hx hb dX1_init_2_88 rfl (lv_at hl 1 rfl) ?_
        refine lv_iconst (v := (nI 0)) hx hb dX1_init_2_89 (by decide) ?_
        refine va_put (D := (dC, dI)) (ci := 0) (v := .int (nI 0)) (ty := .int) (C := RX1) (T := TX1) (N := 12) hx hb hts in_X1 tyX1 tyX1_ok nmX1 hown hK hP hD hS 0 rfl rfl 8 (by decide) (hts _ q38) (fun _ h9 => h9) rfl (by decide +kernel) rfl rfl (Nat.le_of_ble_eq_true rfl) dX1_init_2_90 (fun H locs hP hD hS => ?_)
        have hP : va_P (dC, dI) vwCl (xw ad ci cz (q_hd 5 nx) (q_hd 5 pv) (q_z 64 lo) (q_z 5 le) (q_z 64 wo) (q_z 64 di) (q_z 64 ba) cp (nI 0) hi mi go) H := hP
        have hD : va_D A (xw ad ci cz (q_hd 5 nx) (q_hd 5 pv) (q_z 64 lo) (q_z 5 le) (q_z 64 wo) (q_z 64 di) (q_z 64 ba) cp (nI 0) hi mi go) := hD
        refine lv_aload_n hx hb dX1_init_2_93 rfl (lv_at hl 1 rfl) ?_
        refine lv_iconst (v := (nI 0)) hx hb dX1_init_2_94 (by decide) ?_
        refine va_put (D := (dC, dI)) (ci := 0) (v := .int (nI 0)) (ty := .int) (C := RX1) (T := TX1) (N := 12) hx hb hts in_X1 tyX1 tyX1_ok nmX1 hown hK hP hD hS 0 rfl rfl 9 (by decide) (hts _ q39) (fun _ h9 => h9) rfl (by decide +kernel) rfl rfl (Nat.le_of_ble_eq_true rfl) dX1_init_2_95 (fun H locs hP hD hS => ?_)
        have hP : va_P (dC, dI) vwCl (xw ad ci cz (q_hd 5 nx) (q_hd 5 pv) (q_z 64 lo) (q_z 5 le) (q_z 64 wo) (q_z 64 di) (q_z 64 ba) cp (nI 0) (nI 0) mi go) H := hP
        have hD : va_D A (xw ad ci cz (q_hd 5 nx) (q_hd 5 pv) (q_z 64 lo) (q_z 5 le) (q_z 64 wo) (q_z 64 di) (q_z 64 ba) cp (nI 0) (nI 0) mi go) := hD
        refine lv_aload_n hx hb dX1_init_2_98 rfl (lv_at hl 1 rfl) ?_
        refine lv_iconst (v := (nI 0)) hx hb dX1_init_2_99 (by decide) ?_
        refine va_put (D := (dC, dI)) (ci := 0) (v := .int (nI 0)) (ty := .int) (C := RX1) (T := TX1) (N := 12) hx hb hts in_X1 tyX1 tyX1_ok nmX1 hown hK hP hD hS 0 rfl rfl 10 (by decide) (hts _ q40) (fun _ h9 => h9) rfl (by decide +kernel) rfl rfl (Nat.le_of_ble_eq_true rfl) dX1_init_2_100 (fun H locs hP hD hS => ?_)
        have hP : va_P (dC, dI) vwCl (xw ad ci cz (q_hd 5 nx) (q_hd 5 pv) (q_z 64 lo) (q_z 5 le) (q_z 64 wo) (q_z 64 di) (q_z 64 ba) cp (nI 0) (nI 0) (nI 0) go) H := hP
        have hD : va_D A (xw ad ci cz (q_hd 5 nx) (q_hd 5 pv) (q_z 64 lo) (q_z 5 le) (q_z 64 wo) (q_z 64 di) (q_z 64 ba) cp (nI 0) (nI 0) (nI 0) go) := hD
        refine lv_aload_n hx hb dX1_init_2_103 rfl (lv_at hl 1 rfl) ?_
        refine lv_iconst (v := (nI 0)) hx hb dX1_init_2_104 (by decide) ?_
        refine va_put (D := (dC, dI)) (ci := 0) (v := .int (nI 0)) (ty := .int) (C := RX1) (T := TX1) (N := 12) hx hb hts in_X1 tyX1 tyX1_ok nmX1 hown hK hP hD hS 0 rfl rfl 11 (by decide) (hts _ q41) (fun _ h9 => h9) rfl (by decide +kernel) rfl rfl (Nat.le_of_ble_eq_true rfl) dX1_init_2_105 (fun H locs hP hD hS => ?_)
        have hP : va_P (dC, dI) vwCl (xw ad ci cz (q_hd 5 nx) (q_hd 5 pv) (q_z 64 lo) (q_z 5 le) (q_z 64 wo) (q_z 64 di) (q_z 64 ba) cp (nI 0) (nI 0) (nI 0) (nI 0)) H := hP
        have hD : va_D A (xw ad ci cz (q_hd 5 nx) (q_hd 5 pv) (q_z 64 lo) (q_z 5 le) (q_z 64 wo) (q_z 64 di) (q_z 64 ba) cp (nI 0) (nI 0) (nI 0) (nI 0)) := hD
        exact W.vret hx hb hr (fun t ht hW => ⟨⟨((q_hd 5 nx), (q_hd 5 pv), (q_z 64 lo), (q_z 5 le)), rfl, x_rep_0 nx pv lo le, by rw [ht]; exact hP, va_K.moved hW.alike hK, hD⟩, hS.F ht⟩) hS.2.2 dX1_init_2_108
      · refine lv_aload_n hx hb dX1_init_2_54 rfl (lv_at hl 1 rfl) ?_
        refine va_get (D := (dC, dI)) (ci := 0) (v := .ref (ad 3)) (C := RX1) (T := TX1) (N := 12) hx hb hts in_X1 hown hK hP 0 rfl rfl 2 (by decide) (hts _ q32) (fun _ h9 => h9) rfl dX1_init_2_55 ?_
        refine lv_iload_n hx hb dX1_init_2_58 rfl (lv_at hl 0 rfl) ?_
        refine lv_iconst (v := (nI 0)) hx hb dX1_init_2_59 (by decide) ?_
        refine q_iast (g := (q_z (i + 1) lo)) hx hb hK hP hD hS 3 0 rfl rfl (by omega) (by decide) (q_z_s lo i) dX1_init_2_60 (fun H locs hP hD hS => ?_)
        have hP : va_P (dC, dI) vwCl (xw ad ci cz (q_hd 5 nx) (q_hd 5 pv) (q_z (i + 1) lo) (q_z 5 le) (q_z i wo) (q_z i di) (q_z i ba) cp tg hi mi go) H := hP
        have hD : va_D A (xw ad ci cz (q_hd 5 nx) (q_hd 5 pv) (q_z (i + 1) lo) (q_z 5 le) (q_z i wo) (q_z i di) (q_z i ba) cp tg hi mi go) := hD
        refine lv_aload_n hx hb dX1_init_2_61 rfl (lv_at hl 1 rfl) ?_
        refine va_get (D := (dC, dI)) (ci := 0) (v := .ref (ad 5)) (C := RX1) (T := TX1) (N := 12) hx hb hts in_X1 hown hK hP 0 rfl rfl 4 (by decide) (hts _ q34) (fun _ h9 => h9) rfl dX1_init_2_62 ?_
        refine lv_iload_n hx hb dX1_init_2_65 rfl (lv_at hl 0 rfl) ?_
        refine lv_iconst (v := (nI 0)) hx hb dX1_init_2_66 (by decide) ?_
        refine q_iast (g := (q_z (i + 1) wo)) hx hb hK hP hD hS 5 0 rfl rfl (by omega) (by decide) (q_z_s wo i) dX1_init_2_67 (fun H locs hP hD hS => ?_)
        have hP : va_P (dC, dI) vwCl (xw ad ci cz (q_hd 5 nx) (q_hd 5 pv) (q_z (i + 1) lo) (q_z 5 le) (q_z (i + 1) wo) (q_z i di) (q_z i ba) cp tg hi mi go) H := hP
        have hD : va_D A (xw ad ci cz (q_hd 5 nx) (q_hd 5 pv) (q_z (i + 1) lo) (q_z 5 le) (q_z (i + 1) wo) (q_z i di) (q_z i ba) cp tg hi mi go) := hD
        refine lv_aload_n hx hb dX1_init_2_68 rfl (lv_at hl 1 rfl) ?_
        refine va_get (D := (dC, dI)) (ci := 0) (v := .ref (ad 6)) (C := RX1) (T := TX1) (N := 12) hx hb hts in_X1 hown hK hP 0 rfl rfl 5 (by decide) (hts _ q35) (fun _ h9 => h9) rfl dX1_init_2_69 ?_
        refine lv_iload_n hx hb dX1_init_2_72 rfl (lv_at hl 0 rfl) ?_
        refine lv_iconst (v := (nI 0)) hx hb dX1_init_2_73 (by decide) ?_
        refine q_zast (g := (q_z (i + 1) di)) hx hb hK hP hD hS 6 1 rfl rfl (by omega) (by decide) (by decide) (q_z_s di i) dX1_init_2_74 (fun H locs hP hD hS => ?_)
        have hP : va_P (dC, dI) vwCl (xw ad ci cz (q_hd 5 nx) (q_hd 5 pv) (q_z (i + 1) lo) (q_z 5 le) (q_z (i + 1) wo) (q_z (i + 1) di) (q_z i ba) cp tg hi mi go) H := hP
        have hD : va_D A (xw ad ci cz (q_hd 5 nx) (q_hd 5 pv) (q_z (i + 1) lo) (q_z 5 le) (q_z (i + 1) wo) (q_z (i + 1) di) (q_z i ba) cp tg hi mi go) := hD
        refine lv_aload_n hx hb dX1_init_2_75 rfl (lv_at hl 1 rfl) ?_
        refine va_get (D := (dC, dI)) (ci := 0) (v := .ref (ad 7)) (C := RX1) (T := TX1) (N := 12) hx hb hts in_X1 hown hK hP 0 rfl rfl 6 (by decide) (hts _ q36) (fun _ h9 => h9) rfl dX1_init_2_76 ?_
        refine lv_iload_n hx hb dX1_init_2_79 rfl (lv_at hl 0 rfl) ?_
        refine lv_iconst (v := (nI 0)) hx hb dX1_init_2_80 (by decide) ?_
        refine q_iast (g := (q_z (i + 1) ba)) hx hb hK hP hD hS 7 0 rfl rfl (by omega) (by decide) (q_z_s ba i) dX1_init_2_81 (fun H locs hP hD hS => ?_)
        have hP : va_P (dC, dI) vwCl (xw ad ci cz (q_hd 5 nx) (q_hd 5 pv) (q_z (i + 1) lo) (q_z 5 le) (q_z (i + 1) wo) (q_z (i + 1) di) (q_z (i + 1) ba) cp tg hi mi go) H := hP
        have hD : va_D A (xw ad ci cz (q_hd 5 nx) (q_hd 5 pv) (q_z (i + 1) lo) (q_z 5 le) (q_z (i + 1) wo) (q_z (i + 1) di) (q_z (i + 1) ba) cp tg hi mi go) := hD
        refine lv_iinc (v := (nI (i + 1))) (lv' := [(1, .int (nI (i + 1))), (0, .ref (ad 0))]) hx hb dX1_init_2_82 hl (k := 0) rfl (q_inc1 i) (by decide) rfl (fun ls hl => ?_)
        refine lv_goto (tgt := 48) hx hb dX1_init_2_85 (by decide) ?_
        exact ih (i + 1) (by omega) (by omega) H locs ls hP hD hS (lv_sub hl [0, 1] rfl)
  have loop1 : ∀ (n i : Nat), i ≤ 5 → 5 + 1 ≤ i + n → ∀ (H : Heap) (locs : List Loc) (ls : Array Slot), va_P (dC, dI) vwCl (xw ad ci cz (q_hd i nx) (q_hd i pv) lo (q_z i le) wo di ba cp tg hi mi go) H → va_D A (xw ad ci cz (q_hd i nx) (q_hd i pv) lo (q_z i le) wo di ba cp tg hi mi go) → va_S A s.heap H locs → lv_has ls 2 [(1, .int (nI i)), (0, .ref (ad 0))] → W p l e (headSpec wsX1_init_2 ({ frames := 0, cells := 0, slots := 0, locals := 0 })).room s m ([.ref (ad 0)] : List Value).toArray below meth c H locs 0 0 (MQ below (va_Qv (fun u : x_U => x_rep q_L0 u.1 u.2.1 u.2.2.1 u.2.2.2) (xB dC dI ci cz A ad (q_z 64 wo) (q_z 64 di) (q_z 64 ba) cp (nI 0) (nI 0) (nI 0) (nI 0)) A) ([.ref (ad 0)] : List Value).toArray s 0 0 A) (F0 m 2 ls []) := by
    intro n
    induction n with
    | zero => intro i h1 h2; exact absurd h2 (by omega)
    | succ n ih =>
      intro i hi9 hn9 H locs ls hP hD hS hl
      refine lv_iload_n hx hb dX1_init_2_2 rfl (lv_at hl 0 rfl) ?_
      refine lv_iconst (v := (nI 5)) hx hb dX1_init_2_3 (by decide) ?_
      refine q_icmp_ge (tgt := 46) hx hb (by omega) (by omega) dX1_init_2_4 (by decide) (fun hc => ?_) (fun hc => ?_)
      · obtain rfl : i = 5 := by omega
        refine lv_iconst (v := (nI 0)) hx hb dX1_init_2_46 (by decide) ?_
        refine lv_istore_n (lv' := [(1, .int (nI 0)), (0, .ref (ad 0))]) hx hb dX1_init_2_47 rfl hl (by decide) rfl (fun ls hl => ?_)
        exact loop2 65 0 (by omega) (by omega) _ _ ls (by rw [q_z_0 lo, q_z_0 wo, q_z_0 di, q_z_0 ba]; exact hP) (by rw [q_z_0 lo, q_z_0 wo, q_z_0 di, q_z_0 ba]; exact hD) hS (lv_sub hl [0, 1] rfl)
      · refine lv_aload_n hx hb dX1_init_2_7 rfl (lv_at hl 1 rfl) ?_
        refine va_get (D := (dC, dI)) (ci := 0) (v := .ref (ad 1)) (C := RX1) (T := TX1) (N := 12) hx hb hts in_X1 hown hK hP 0 rfl rfl 0 (by decide) (hts _ q30) (fun _ h9 => h9) rfl dX1_init_2_8 ?_
        refine lv_bipush (v := (nI 64)) hx hb dX1_init_2_11 (by decide) ?_
        refine lv_iload_n hx hb dX1_init_2_13 rfl (lv_at hl 0 rfl) ?_
        refine q_iadd hx hb dX1_init_2_14 ?_
        refine lv_bipush (v := (nI 64)) hx hb dX1_init_2_15 (by decide) ?_
        refine lv_iload_n hx hb dX1_init_2_17 rfl (lv_at hl 0 rfl) ?_
        refine q_iadd hx hb dX1_init_2_18 ?_
        refine q_iast (g := (q_hd (i + 1) nx)) hx hb hK hP hD hS 1 0 rfl rfl (by omega) (by decide) (q_hd_s nx i) dX1_init_2_19 (fun H locs hP hD hS => ?_)
        have hP : va_P (dC, dI) vwCl (xw ad ci cz (q_hd (i + 1) nx) (q_hd i pv) lo (q_z i le) wo di ba cp tg hi mi go) H := hP
        have hD : va_D A (xw ad ci cz (q_hd (i + 1) nx) (q_hd i pv) lo (q_z i le) wo di ba cp tg hi mi go) := hD
        refine lv_aload_n hx hb dX1_init_2_20 rfl (lv_at hl 1 rfl) ?_
        refine va_get (D := (dC, dI)) (ci := 0) (v := .ref (ad 2)) (C := RX1) (T := TX1) (N := 12) hx hb hts in_X1 hown hK hP 0 rfl rfl 1 (by decide) (hts _ q31) (fun _ h9 => h9) rfl dX1_init_2_21 ?_
        refine lv_bipush (v := (nI 64)) hx hb dX1_init_2_24 (by decide) ?_
        refine lv_iload_n hx hb dX1_init_2_26 rfl (lv_at hl 0 rfl) ?_
        refine q_iadd hx hb dX1_init_2_27 ?_
        refine lv_bipush (v := (nI 64)) hx hb dX1_init_2_28 (by decide) ?_
        refine lv_iload_n hx hb dX1_init_2_30 rfl (lv_at hl 0 rfl) ?_
        refine q_iadd hx hb dX1_init_2_31 ?_
        refine q_iast (g := (q_hd (i + 1) pv)) hx hb hK hP hD hS 2 0 rfl rfl (by omega) (by decide) (q_hd_s pv i) dX1_init_2_32 (fun H locs hP hD hS => ?_)
        have hP : va_P (dC, dI) vwCl (xw ad ci cz (q_hd (i + 1) nx) (q_hd (i + 1) pv) lo (q_z i le) wo di ba cp tg hi mi go) H := hP
        have hD : va_D A (xw ad ci cz (q_hd (i + 1) nx) (q_hd (i + 1) pv) lo (q_z i le) wo di ba cp tg hi mi go) := hD
        refine lv_aload_n hx hb dX1_init_2_33 rfl (lv_at hl 1 rfl) ?_
        refine va_get (D := (dC, dI)) (ci := 0) (v := .ref (ad 4)) (C := RX1) (T := TX1) (N := 12) hx hb hts in_X1 hown hK hP 0 rfl rfl 3 (by decide) (hts _ q33) (fun _ h9 => h9) rfl dX1_init_2_34 ?_
        refine lv_iload_n hx hb dX1_init_2_37 rfl (lv_at hl 0 rfl) ?_
        refine lv_iconst (v := (nI 0)) hx hb dX1_init_2_38 (by decide) ?_
        refine q_iast (g := (q_z (i + 1) le)) hx hb hK hP hD hS 4 0 rfl rfl (by omega) (by decide) (q_z_s le i) dX1_init_2_39 (fun H locs hP hD hS => ?_)
        have hP : va_P (dC, dI) vwCl (xw ad ci cz (q_hd (i + 1) nx) (q_hd (i + 1) pv) lo (q_z (i + 1) le) wo di ba cp tg hi mi go) H := hP
        have hD : va_D A (xw ad ci cz (q_hd (i + 1) nx) (q_hd (i + 1) pv) lo (q_z (i + 1) le) wo di ba cp tg hi mi go) := hD
        refine lv_iinc (v := (nI (i + 1))) (lv' := [(1, .int (nI (i + 1))), (0, .ref (ad 0))]) hx hb dX1_init_2_40 hl (k := 0) rfl (q_inc1 i) (by decide) rfl (fun ls hl => ?_)
        refine lv_goto (tgt := 2) hx hb dX1_init_2_43 (by decide) ?_
        exact ih (i + 1) (by omega) (by omega) H locs ls hP hD hS (lv_sub hl [0, 1] rfl)
  refine lv_iconst (v := (nI 0)) hx hb dX1_init_2_0 (by decide) ?_
  refine lv_istore_n (lv' := [(1, .int (nI 0)), (0, .ref (ad 0))]) hx hb dX1_init_2_1 rfl hl (by decide) rfl (fun ls hl => ?_)
  exact loop1 6 0 (by omega) (by omega) _ _ ls (by rw [q_hd_0, q_hd_0, q_z_0]; exact hP) (by rw [q_hd_0, q_hd_0, q_z_0]; exact hD) hS (lv_sub hl [0, 1] rfl)
end
section
/-! PURE: what the reference's loops want beside -/
theorem q_fb_g {wo ba di : Nat → Int32} {n : Nat} : q_gb wo (q_fb n wo ba di) (q_z n di) n = q_fb (n + 1) wo ba di := by
  unfold q_gb
  rw [q_z_at]
  by_cases h : di n = nI 0
  · rw [if_pos h]; exact q_fb_n h
  · rw [if_neg h]; exact q_fb_y h
theorem q_add0 (x : Int32) : x + nI 0 = x := by rw [nI_0]; exact Int32.add_zero x
theorem q_ct_y {di : Nat → Int32} {n : Nat} (h : ¬ di n = nI 0) : q_ct di n + nI 1 = q_ct di (n + 1) := by
  show _ = (if di n = nI 0 then q_ct di n else q_ct di n + nI 1)
  rw [if_neg h]
theorem q_ct_n {di : Nat → Int32} {n : Nat} (h : di n = nI 0) : q_ct di n + nI 0 = q_ct di (n + 1) := by
  show _ = (if di n = nI 0 then q_ct di n else q_ct di n + nI 1)
  rw [if_pos h, q_add0]
theorem q_mv_0 (L : Nat → List Nat) (a : Nat) : q_mv L a 0 = q_rm L a := if_pos rfl
end
section
/-- isAddress(x) -/
abbrev wsX2_isAddress : List Cond := ws_ yX2_isAddress cX2_isAddress 1 (some .boolean)
set_option maxHeartbeats 4000000 in
set_option maxRecDepth 100000 in
theorem metX2_isAddress (l : Launch) (x : Int32) : Met l yX2_isAddress wsX2_isAddress ({ frames := 0, cells := 0, slots := 0, locals := 0 }) (va_Pc [.int x] (fun _ => True)) (va_Qi (fun (r : Int32) (_ : Unit) => (r = nI 1 ∧ ∃ j : Nat, j < 64 ∧ x = nI j) ∨ (r = nI 0 ∧ ∀ j : Nat, j < 64 → x ≠ nI j)) (fun (_ : Unit) _ => True) (fun _ => False)) 0 0 (fun _ => False) := by
  refine Met.ofW (cc := cX2_isAddress) (maxL := 1) (ret := (some .boolean)) (by decide) rfl ?_
  intro p e s m args below meth c s₁ B hml hv
  obtain ⟨rfl, -⟩ := hv
  have hx := B.exec
  have hb := B.bytes
  have hr := B.returns
  have hlocks := B.notSynchronized
  have hS : va_S (fun _ => False) s.heap s.heap [] := va_S.rf
  have hl := lv_entry ([.int x]) (n := 1) (Nat.le_of_ble_eq_true rfl)
  rw [lg_entry_eq]
  generalize (lg_sl ([.int x]) ++ List.replicate (1 - (lg_sl ([.int x])).length) Slot.unset).toArray = ls at hl ⊢
  have hl : lv_has ls 1 [(0, .int x)] := hl
  refine lv_iload_n hx hb dX2_isAddress_0 rfl (lv_at hl 0 rfl) ?_
  refine lv_if_lt (tgt := 14) hx hb dX2_isAddress_1 (by decide) (fun hc => ?_) (fun hc => ?_)
  · refine lv_iconst (v := (nI 0)) hx hb dX2_isAddress_14 (by decide) ?_
    exact W.zret (v := (nI 0)) hx hb hr rfl (fun t ht hW => ⟨⟨(nI 0), (), rfl, Or.inr ⟨rfl, fun j hj q => absurd (by rw [← q]; exact hc) (nI_pos (n := j) (by omega))⟩, trivial⟩, hS.F ht⟩) hS.2.2 dX2_isAddress_15
  · refine lv_iload_n hx hb dX2_isAddress_4 rfl (lv_at hl 0 rfl) ?_
    refine lv_bipush (v := (nI 64)) hx hb dX2_isAddress_5 (by decide) ?_
    refine lv_icmp_ge (tgt := 14) hx hb dX2_isAddress_7 (by decide) (fun hc2 => ?_) (fun hc2 => ?_)
    · refine lv_iconst (v := (nI 0)) hx hb dX2_isAddress_14 (by decide) ?_
      exact W.zret (v := (nI 0)) hx hb hr rfl (fun t ht hW => ⟨⟨(nI 0), (), rfl, Or.inr ⟨rfl, fun j hj q => absurd (by rw [← q]; exact hc2) (nI_ge (a := j) (b := 64) hj (by decide))⟩, trivial⟩, hS.F ht⟩) hS.2.2 dX2_isAddress_15
    · refine lv_iconst (v := (nI 1)) hx hb dX2_isAddress_10 (by decide) ?_
      refine lv_goto (tgt := 15) hx hb dX2_isAddress_11 (by decide) ?_
      exact W.zret (v := (nI 1)) hx hb hr rfl (fun t ht hW => ⟨⟨(nI 1), (), rfl, Or.inl ⟨rfl, by rcases pk_ix x (n := 64) (by decide) with q | q | q; exact absurd q hc; exact absurd q hc2; exact q⟩, trivial⟩, hS.F ht⟩) hS.2.2 dX2_isAddress_15
/-- whichList(v) -/
abbrev wsX2_whichList : List Cond := ws_ yX2_whichList cX2_whichList 5 (some .int)
set_option maxHeartbeats 4000000 in
set_option maxRecDepth 100000 in
theorem metX2_whichList (l : Launch) (dC : Nat → ClassId) (dI : Nat → Nat → Nat) (ci cz : ClassId) (ad : Nat → Nat) (sz : Nat) (li ma wo di ba : Nat → Int32) (cp tg hi mi go : Int32) {L : Nat → List Nat} {v : Int32} (hok : q_ok L) (hR : m_rep L li ma) : Met l yX2_whichList wsX2_whichList ({ frames := 0, cells := 0, slots := 0, locals := 0 }) (va_Pc [.ref (ad 0), .int v] (q_Pre dC dI ci cz sz (mw ad ci cz li ma wo di ba cp tg hi mi go))) (va_Qi (fun (r : Int32) (_ : Unit) => r = q_so (q_wlf L) v) (fun (_ : Unit) t => q_Post dC dI ci cz (va_A (mw ad ci cz li ma wo di ba cp tg hi mi go) sz) (mw ad ci cz li ma wo di ba cp tg hi mi go) t) (va_A (mw ad ci cz li ma wo di ba cp tg hi mi go) sz)) 0 0 (va_A (mw ad ci cz li ma wo di ba cp tg hi mi go) sz) := by
  refine Met.ofW (cc := cX2_whichList) (maxL := 5) (ret := (some .int)) (by decide) rfl ?_
  intro p e s m args below meth c s₁ B hml hv
  obtain ⟨rfl, hsz, hP, hK, hD0⟩ := hv
  have hx := B.exec
  have hb := B.bytes
  have hr := B.returns
  have hts := atoms_spec (ws := wsX2_whichList) B.pre
  have hts : ∀ w ∈ lw_all, w.before _ s = true := fun w h => hts w (List.mem_cons_of_mem _ h)
  have hown : s.vm.findClass RX2 = some m.cls := findClass_of_methodNamed B.named
  have hlocks := B.notSynchronized
  subst hsz
  have hD := hD0.self (sz := s.heap.size)
  generalize hAe : va_A (mw ad ci cz li ma wo di ba cp tg hi mi go) s.heap.size = A at hD ⊢
  have hA : ∀ q : Nat, s.heap.size ≤ q → A q := fun q h => by rw [← hAe]; exact Or.inr h
  have hS : va_S A s.heap s.heap [] := va_S.rf
  have hP : va_P (dC, dI) vwCl (mw ad ci cz li ma wo di ba cp tg hi mi go) s.heap := hP
  have hl := lv_entry ([.ref (ad 0), .int v]) (n := 5) (Nat.le_of_ble_eq_true rfl)
  rw [lg_entry_eq]
  generalize (lg_sl ([.ref (ad 0), .int v]) ++ List.replicate (5 - (lg_sl ([.ref (ad 0), .int v])).length) Slot.unset).toArray = ls at hl ⊢
  have hl : lv_has ls 5 [(0, .ref (ad 0)), (1, .int v)] := hl
  have loop : ∀ (n t : Nat), t ≤ 4 → 5 ≤ t + n → ∀ (ls : Array Slot), lv_has ls 5 [(3, .int (nI (t + 1))), (2, .int (q_fd L v t)), (0, .ref (ad 0)), (1, .int v)] → W p l e (headSpec wsX2_whichList ({ frames := 0, cells := 0, slots := 0, locals := 0 })).room s m ([.ref (ad 0), .int v] : List Value).toArray below meth c s.heap [] 0 0 (MQ below (va_Qi (fun (r : Int32) (_ : Unit) => r = q_so (q_wlf L) v) (fun (_ : Unit) t => q_Post dC dI ci cz A (mw ad ci cz li ma wo di ba cp tg hi mi go) t) A) ([.ref (ad 0), .int v] : List Value).toArray s 0 0 A) (F0 m 4 ls []) := by
    intro n
    induction n with
    | zero => intro t h1 h2; exact absurd h2 (by omega)
    | succ n ih =>
      intro t ht1 ht2 ls hl
      refine lv_iload_n hx hb dX2_whichList_4 rfl (lv_at hl 0 rfl) ?_
      refine lv_iconst (v := (nI 5)) hx hb dX2_whichList_5 (by decide) ?_
      refine q_icmp_ge (tgt := 57) hx hb (by omega) (by omega) dX2_whichList_6 (by decide) (fun hc => ?_) (fun hc => ?_)
      · obtain rfl : t = 4 := by omega
        refine lv_iload_n hx hb dX2_whichList_57 rfl (lv_at hl 1 rfl) ?_
        exact W.iret (v := (q_fd L v 4)) hx hb hr (fun t ht hW => ⟨⟨(q_fd L v 4), (), rfl, q_fd_so hok, by rw [ht]; exact hP, va_K.moved hW.alike hK, hD⟩, hS.F ht⟩) hS.2.2 dX2_whichList_58
      · have hlj := q_L64 hok (t + 1)
        have loop2 : ∀ (n2 i : Nat), i ≤ (L (t + 1)).length → (L (t + 1)).length + 1 ≤ i + n2 → ∀ (ls : Array Slot), lv_has ls 5 [(4, .int (nI i)), (2, .int (q_fi (L (t + 1)) v (q_fd L v t) (nI (t + 1)) i)), (3, .int (nI (t + 1))), (0, .ref (ad 0)), (1, .int v)] → W p l e (headSpec wsX2_whichList ({ frames := 0, cells := 0, slots := 0, locals := 0 })).room s m ([.ref (ad 0), .int v] : List Value).toArray below meth c s.heap [] 0 0 (MQ below (va_Qi (fun (r : Int32) (_ : Unit) => r = q_so (q_wlf L) v) (fun (_ : Unit) t => q_Post dC dI ci cz A (mw ad ci cz li ma wo di ba cp tg hi mi go) t) A) ([.ref (ad 0), .int v] : List Value).toArray s 0 0 A) (F0 m 12 ls []) := by
          intro n2
          induction n2 with
          | zero => intro i h1 h2; exact absurd h2 (by omega)
          | succ n2 ih2 =>
            intro i hi1 hi2 ls hl
            refine lv_iload hx hb dX2_whichList_12 (lv_at hl 0 rfl) ?_
            refine lv_aload_n hx hb dX2_whichList_14 rfl (lv_at hl 3 rfl) ?_
            refine va_get (D := (dC, dI)) (ci := 1) (v := .ref (ad 2)) (C := RX2) (T := TX2) (N := 10) hx hb hts in_X2 hown hK hP 0 rfl rfl 2 (by decide) (hts _ q163) (fun _ h9 => h9) rfl dX2_whichList_15 ?_
            refine lv_iload_n hx hb dX2_whichList_18 rfl (lv_at hl 2 rfl) ?_
            refine q_iald (v := (nI ((L (t + 1)).length))) hx hb hK hP 2 0 rfl rfl (by omega) (by decide) (hR.1 (t + 1) (by omega) (by omega)) dX2_whichList_19 ?_
            refine q_icmp_ge (tgt := 51) hx hb (by omega) (by omega) dX2_whichList_20 (by decide) (fun hc2 => ?_) (fun hc2 => ?_)
            · have ei : i = (L (t + 1)).length := by omega
              rw [ei, q_fi_e] at hl
              refine lv_iinc (v := (nI (t + 1 + 1))) (lv' := [(3, .int (nI (t + 1 + 1))), (4, .int (nI ((L (t + 1)).length))), (2, .int (q_fd L v (t + 1))), (0, .ref (ad 0)), (1, .int v)]) hx hb dX2_whichList_51 hl (k := 2) rfl (q_inc1 (t + 1)) (by decide) rfl (fun ls hl => ?_)
              refine lv_goto (tgt := 4) hx hb dX2_whichList_54 (by decide) ?_
              exact ih (t + 1) (by omega) (by omega) ls (lv_sub hl [0, 2, 3, 4] rfl)
            · obtain ⟨b9, hb9⟩ : ∃ b, (L (t + 1))[i]? = some b := ⟨_, List.getElem?_eq_getElem (by omega)⟩
              refine lv_aload_n hx hb dX2_whichList_23 rfl (lv_at hl 3 rfl) ?_
              refine va_get (D := (dC, dI)) (ci := 1) (v := .ref (ad 1)) (C := RX2) (T := TX2) (N := 10) hx hb hts in_X2 hown hK hP 0 rfl rfl 1 (by decide) (hts _ q162) (fun _ h9 => h9) rfl dX2_whichList_24 ?_
              refine lv_bipush (v := (nI 64)) hx hb dX2_whichList_27 (by decide) ?_
              refine lv_iload_n hx hb dX2_whichList_29 rfl (lv_at hl 2 rfl) ?_
              refine q_imul hx hb dX2_whichList_30 ?_
              refine lv_iload hx hb dX2_whichList_31 (lv_at hl 0 rfl) ?_
              refine q_iadd hx hb dX2_whichList_33 ?_
              refine q_iald (v := (nI b9)) hx hb hK hP 1 0 rfl rfl (by omega) (by decide) (hR.2 (t + 1) i b9 (by omega) (by omega) hb9) dX2_whichList_34 ?_
              refine lv_iload_n hx hb dX2_whichList_35 rfl (lv_at hl 4 rfl) ?_
              refine lv_icmp_ne (tgt := 43) hx hb dX2_whichList_36 (by decide) (fun hc3 => ?_) (fun hc3 => ?_)
              · refine lv_iload_n hx hb dX2_whichList_43 rfl (lv_at hl 1 rfl) ?_
                refine q_top (y := (q_fi (L (t + 1)) v (q_fd L v t) (nI (t + 1)) (i + 1))) (by rw [← q_fi_s hb9, if_neg hc3]) ?_
                refine lv_istore_n (lv' := [(2, .int (q_fi (L (t + 1)) v (q_fd L v t) (nI (t + 1)) (i + 1))), (4, .int (nI i)), (3, .int (nI (t + 1))), (0, .ref (ad 0)), (1, .int v)]) hx hb dX2_whichList_44 rfl hl (by decide) rfl (fun ls hl => ?_)
                refine lv_iinc (v := (nI (i + 1))) (lv' := [(4, .int (nI (i + 1))), (2, .int (q_fi (L (t + 1)) v (q_fd L v t) (nI (t + 1)) (i + 1))), (3, .int (nI (t + 1))), (0, .ref (ad 0)), (1, .int v)]) hx hb dX2_whichList_45 hl (k := 1) rfl (q_inc1 i) (by decide) rfl (fun ls hl => ?_)
                refine lv_goto (tgt := 12) hx hb dX2_whichList_48 (by decide) ?_
                exact ih2 (i + 1) (by omega) (by omega) ls (lv_sub hl [0, 1, 2, 3, 4] rfl)
              · refine lv_iload_n hx hb dX2_whichList_39 rfl (lv_at hl 2 rfl) ?_
                refine lv_goto (tgt := 44) hx hb dX2_whichList_40 (by decide) ?_
                refine q_top (y := (q_fi (L (t + 1)) v (q_fd L v t) (nI (t + 1)) (i + 1))) (by rw [← q_fi_s hb9, if_pos hc3]) ?_
                refine lv_istore_n (lv' := [(2, .int (q_fi (L (t + 1)) v (q_fd L v t) (nI (t + 1)) (i + 1))), (4, .int (nI i)), (3, .int (nI (t + 1))), (0, .ref (ad 0)), (1, .int v)]) hx hb dX2_whichList_44 rfl hl (by decide) rfl (fun ls hl => ?_)
                refine lv_iinc (v := (nI (i + 1))) (lv' := [(4, .int (nI (i + 1))), (2, .int (q_fi (L (t + 1)) v (q_fd L v t) (nI (t + 1)) (i + 1))), (3, .int (nI (t + 1))), (0, .ref (ad 0)), (1, .int v)]) hx hb dX2_whichList_45 hl (k := 1) rfl (q_inc1 i) (by decide) rfl (fun ls hl => ?_)
                refine lv_goto (tgt := 12) hx hb dX2_whichList_48 (by decide) ?_
                exact ih2 (i + 1) (by omega) (by omega) ls (lv_sub hl [0, 1, 2, 3, 4] rfl)
        refine lv_iconst (v := (nI 0)) hx hb dX2_whichList_9 (by decide) ?_
        refine lv_istore (lv' := [(4, .int (nI 0)), (3, .int (nI (t + 1))), (2, .int (q_fd L v t)), (0, .ref (ad 0)), (1, .int v)]) hx hb dX2_whichList_10 hl (by decide) rfl (fun ls hl => ?_)
        exact loop2 ((L (t + 1)).length + 1) 0 (by omega) (by omega) ls (by rw [q_fi_0]; exact (lv_sub hl [0, 2, 1, 3, 4] rfl))
  refine lv_iconst (v := (nI 0)) hx hb dX2_whichList_0 (by decide) ?_
  refine lv_istore_n (lv' := [(2, .int (nI 0)), (0, .ref (ad 0)), (1, .int v)]) hx hb dX2_whichList_1 rfl hl (by decide) rfl (fun ls hl => ?_)
  refine lv_iconst (v := (nI 1)) hx hb dX2_whichList_2 (by decide) ?_
  refine lv_istore_n (lv' := [(3, .int (nI 1)), (2, .int (nI 0)), (0, .ref (ad 0)), (1, .int v)]) hx hb dX2_whichList_3 rfl hl (by decide) rfl (fun ls hl => ?_)
  exact loop 5 0 (by omega) (by omega) ls (lv_sub hl [0, 1, 2, 3] rfl)
end
section
/-- leave(a) -/
abbrev wsX2_leave : List Cond := ws_ yX2_leave cX2_leave 4 none
set_option maxHeartbeats 4000000 in
set_option maxRecDepth 100000 in
theorem metX2_leave (l : Launch) (dC : Nat → ClassId) (dI : Nat → Nat → Nat) (ci cz : ClassId) (ad : Nat → Nat) (sz : Nat) (li ma wo di ba : Nat → Int32) (cp tg hi mi go : Int32) {L : Nat → List Nat} {a : Nat} (hok : q_ok L) (hR : m_rep L li ma) (ha : a < 64) : Met l yX2_leave wsX2_leave ({ frames := 1, cells := 0, slots := 0, locals := 24 }) (va_Pc [.ref (ad 0), .int (nI a)] (q_Pre dC dI ci cz sz (mw ad ci cz li ma wo di ba cp tg hi mi go))) (va_Qv (fun u : m_U => m_rep (q_rm L a) u.1 u.2) (mB dC dI ci cz (va_A (mw ad ci cz li ma wo di ba cp tg hi mi go) sz) ad wo di ba cp tg hi mi go) (va_A (mw ad ci cz li ma wo di ba cp tg hi mi go) sz)) 0 0 (va_A (mw ad ci cz li ma wo di ba cp tg hi mi go) sz) := by
  refine Met.ofW (cc := cX2_leave) (maxL := 4) (ret := none) (by decide) rfl ?_
  intro p e s m args below meth c s₁ B hml hv
  obtain ⟨rfl, hsz, hP, hK, hD0⟩ := hv
  have hx := B.exec
  have hb := B.bytes
  have hr := B.returns
  have hts := atoms_spec (ws := wsX2_leave) B.pre
  have hts : ∀ w ∈ lw_all, w.before _ s = true := fun w h => hts w (List.mem_cons_of_mem _ h)
  have hown : s.vm.findClass RX2 = some m.cls := findClass_of_methodNamed B.named
  have hlocks := B.notSynchronized
  subst hsz
  have hD := hD0.self (sz := s.heap.size)
  generalize hAe : va_A (mw ad ci cz li ma wo di ba cp tg hi mi go) s.heap.size = A at hD ⊢
  have hA : ∀ q : Nat, s.heap.size ≤ q → A q := fun q h => by rw [← hAe]; exact Or.inr h
  have hS : va_S A s.heap s.heap [] := va_S.rf
  have hP : va_P (dC, dI) vwCl (mw ad ci cz li ma wo di ba cp tg hi mi go) s.heap := hP
  have hl := lv_entry ([.ref (ad 0), .int (nI a)]) (n := 4) (Nat.le_of_ble_eq_true rfl)
  rw [lg_entry_eq]
  generalize (lg_sl ([.ref (ad 0), .int (nI a)]) ++ List.replicate (4 - (lg_sl ([.ref (ad 0), .int (nI a)])).length) Slot.unset).toArray = ls at hl ⊢
  have hl : lv_has ls 4 [(0, .ref (ad 0)), (1, .int (nI a))] := hl
  have hw4 := q_wh_le L a
  refine lv_aload_n hx hb dX2_leave_0 rfl (lv_at hl 0 rfl) ?_
  refine lv_iload_n hx hb dX2_leave_1 rfl (lv_at hl 1 rfl) ?_
  have hFc := va_free (wc := (mw ad ci cz li ma wo di ba cp tg hi mi go)) hD hS hA [0, 1, 2, 3, 4, 5] rfl
  refine va_calli (va_runV (As := [.int (nI a)]) (rest := []) ⟨hx, hb, hml, hown, hts⟩ (metX2_whichList l dC dI ci cz ad s.heap.size li ma wo di ba cp tg hi mi go (v := nI a) hok hR) (cwV 1 hts (lw_V q211 q197 q198 q17 q199) rfl rfl rfl (by decide +kernel) ⟨Nat.le_of_ble_eq_true rfl, Nat.le_of_ble_eq_true rfl⟩) ⟨q_blind, va_recv hK hP (ci := 1) (q0 := 0) rfl rfl, fun U hU hW => q_ent hP hK hD hU hW⟩ rfl rfl hl.1 rfl (lv_room (Nat.le_of_ble_eq_true rfl)) dX2_leave_2 ⟨Nat.le_of_ble_eq_true rfl, Nat.le_of_ble_eq_true rfl⟩) hS (fun q _ h => hFc q h) hFc (fun r1 u t H1 locs ht hvm hw hB hzq hkq hS => ?_)
  obtain ⟨hP1, hK1, hD1⟩ := hB
  rw [ht] at hP1
  have hP : va_P (dC, dI) vwCl (mw ad ci cz li ma wo di ba cp tg hi mi go) H1 := hP1
  have hD : va_D A (mw ad ci cz li ma wo di ba cp tg hi mi go) := hD1.weaken (fun k q _ h => hFc q.1 h)
  generalize H1 = H at hP hS ⊢
  have hw : r1 = q_so (q_wlf L) (nI a) := hw
  rw [q_so_in ha] at hw
  have hw : r1 = nI (q_wh L a) := hw
  subst hw
  refine lv_istore_n (lv' := [(2, .int (nI (q_wh L a))), (0, .ref (ad 0)), (1, .int (nI a))]) hx hb dX2_leave_5 rfl hl (by decide) rfl (fun ls hl => ?_)
  refine lv_iload_n hx hb dX2_leave_6 rfl (lv_at hl 0 rfl) ?_
  refine q_if_le (tgt := 76) hx hb (by omega) dX2_leave_7 (by decide) (fun hk => ?_) (fun hk => ?_)
  · exact W.vret hx hb hr (fun t ht hW => ⟨⟨(li, ma), rfl, (by rw [q_rm_same hok hk]; exact hR), by rw [ht]; exact hP, va_K.moved hW.alike hK, hD⟩, hS.F ht⟩) hS.2.2 dX2_leave_76
  · obtain ⟨p9, n9, hpn, hn64, ema, hlt9, heq9, hR9⟩ := m_lv hok hR (show q_wh L a ≠ 0 by omega)
    have loop2 : ∀ (n i : Nat), p9 ≤ i → i ≤ n9 → n9 + 1 ≤ i + n → ∀ (H : Heap) (locs : List Loc) (ls : Array Slot), va_P (dC, dI) vwCl (mw ad ci cz (q_shl li (64 * q_wh L a + p9) (64 * q_wh L a + i)) (upd ma (q_wh L a) (nI n9)) wo di ba cp tg hi mi go) H → va_D A (mw ad ci cz (q_shl li (64 * q_wh L a + p9) (64 * q_wh L a + i)) (upd ma (q_wh L a) (nI n9)) wo di ba cp tg hi mi go) → va_S A s.heap H locs → lv_has ls 4 [(3, .int (nI (64 * q_wh L a + i))), (2, .int (nI (q_wh L a))), (0, .ref (ad 0)), (1, .int (nI a))] → W p l e (headSpec wsX2_leave ({ frames := 1, cells := 0, slots := 0, locals := 24 })).room s m ([.ref (ad 0), .int (nI a)] : List Value).toArray below meth c H locs 0 0 (MQ below (va_Qv (fun u : m_U => m_rep (q_rm L a) u.1 u.2) (mB dC dI ci cz A ad wo di ba cp tg hi mi go) A) ([.ref (ad 0), .int (nI a)] : List Value).toArray s 0 0 A) (F0 m 41 ls []) := by
      intro n
      induction n with
      | zero => intro i h0 h1 h2; exact absurd h2 (by omega)
      | succ n ih =>
        intro i hi0 hi9 hn9 H locs ls hP hD hS hl
        refine lv_iload_n hx hb dX2_leave_41 rfl (lv_at hl 0 rfl) ?_
        refine lv_bipush (v := (nI 64)) hx hb dX2_leave_42 (by decide) ?_
        refine lv_iload_n hx hb dX2_leave_44 rfl (lv_at hl 1 rfl) ?_
        refine q_imul hx hb dX2_leave_45 ?_
        refine lv_aload_n hx hb dX2_leave_46 rfl (lv_at hl 2 rfl) ?_
        refine va_get (D := (dC, dI)) (ci := 1) (v := .ref (ad 2)) (C := RX2) (T := TX2) (N := 10) hx hb hts in_X2 hown hK hP 0 rfl rfl 2 (by decide) (hts _ q163) (fun _ h9 => h9) rfl dX2_leave_47 ?_
        refine lv_iload_n hx hb dX2_leave_50 rfl (lv_at hl 1 rfl) ?_
        refine q_iald (v := (nI n9)) hx hb hK hP 2 0 rfl rfl (by omega) (by decide) pk_us dX2_leave_51 ?_
        refine q_iadd hx hb dX2_leave_52 ?_
        refine q_icmp_ge (tgt := 76) hx hb (by omega) (by omega) dX2_leave_53 (by decide) (fun hc => ?_) (fun hc => ?_)
        · exact W.vret hx hb hr (fun t ht hW => ⟨⟨((q_shl li (64 * q_wh L a + p9) (64 * q_wh L a + i)), (upd ma (q_wh L a) (nI n9))), rfl, (by rw [show i = n9 by omega]; exact hR9), by rw [ht]; exact hP, va_K.moved hW.alike hK, hD⟩, hS.F ht⟩) hS.2.2 dX2_leave_76
        · refine lv_aload_n hx hb dX2_leave_56 rfl (lv_at hl 2 rfl) ?_
          refine va_get (D := (dC, dI)) (ci := 1) (v := .ref (ad 1)) (C := RX2) (T := TX2) (N := 10) hx hb hts in_X2 hown hK hP 0 rfl rfl 1 (by decide) (hts _ q162) (fun _ h9 => h9) rfl dX2_leave_57 ?_
          refine lv_iload_n hx hb dX2_leave_60 rfl (lv_at hl 0 rfl) ?_
          refine lv_aload_n hx hb dX2_leave_61 rfl (lv_at hl 2 rfl) ?_
          refine va_get (D := (dC, dI)) (ci := 1) (v := .ref (ad 1)) (C := RX2) (T := TX2) (N := 10) hx hb hts in_X2 hown hK hP 0 rfl rfl 1 (by decide) (hts _ q162) (fun _ h9 => h9) rfl dX2_leave_62 ?_
          refine lv_iload_n hx hb dX2_leave_65 rfl (lv_at hl 0 rfl) ?_
          refine lv_iconst (v := (nI 1)) hx hb dX2_leave_66 (by decide) ?_
          refine q_iadd hx hb dX2_leave_67 ?_
          refine q_iald (v := (li (64 * q_wh L a + i + 1))) hx hb hK hP 1 0 rfl rfl (by omega) (by decide) (q_shl_at li) dX2_leave_68 ?_
          refine q_iast (g := (q_shl li (64 * q_wh L a + p9) (64 * q_wh L a + (i + 1)))) hx hb hK hP hD hS 1 0 rfl rfl (by omega) (by decide) (q_shl_s li (by omega)) dX2_leave_69 (fun H locs hP hD hS => ?_)
          have hP : va_P (dC, dI) vwCl (mw ad ci cz (q_shl li (64 * q_wh L a + p9) (64 * q_wh L a + (i + 1))) (upd ma (q_wh L a) (nI n9)) wo di ba cp tg hi mi go) H := hP
          have hD : va_D A (mw ad ci cz (q_shl li (64 * q_wh L a + p9) (64 * q_wh L a + (i + 1))) (upd ma (q_wh L a) (nI n9)) wo di ba cp tg hi mi go) := hD
          refine lv_iinc (v := (nI (64 * q_wh L a + (i + 1)))) (lv' := [(3, .int (nI (64 * q_wh L a + (i + 1)))), (2, .int (nI (q_wh L a))), (0, .ref (ad 0)), (1, .int (nI a))]) hx hb dX2_leave_70 hl (k := 0) rfl (q_inc1 (64 * q_wh L a + i)) (by decide) rfl (fun ls hl => ?_)
          refine lv_goto (tgt := 41) hx hb dX2_leave_73 (by decide) ?_
          exact ih (i + 1) (by omega) (by omega) (by omega) H locs ls hP hD hS (lv_sub hl [0, 1, 2, 3] rfl)
    have loop1 : ∀ (n i : Nat), i ≤ p9 → p9 + 1 ≤ i + n → ∀ (ls : Array Slot), lv_has ls 4 [(3, .int (nI (64 * q_wh L a + i))), (2, .int (nI (q_wh L a))), (0, .ref (ad 0)), (1, .int (nI a))] → W p l e (headSpec wsX2_leave ({ frames := 1, cells := 0, slots := 0, locals := 24 })).room s m ([.ref (ad 0), .int (nI a)] : List Value).toArray below meth c H locs 0 0 (MQ below (va_Qv (fun u : m_U => m_rep (q_rm L a) u.1 u.2) (mB dC dI ci cz A ad wo di ba cp tg hi mi go) A) ([.ref (ad 0), .int (nI a)] : List Value).toArray s 0 0 A) (F0 m 15 ls []) := by
      intro n
      induction n with
      | zero => intro i h1 h2; exact absurd h2 (by omega)
      | succ n ih =>
        intro i hi9 hn9 ls hl
        rcases Nat.lt_or_ge i p9 with hip | hip
        · obtain ⟨b9, hb64, hba, eb⟩ := hlt9 i hip
          refine lv_aload_n hx hb dX2_leave_15 rfl (lv_at hl 2 rfl) ?_
          refine va_get (D := (dC, dI)) (ci := 1) (v := .ref (ad 1)) (C := RX2) (T := TX2) (N := 10) hx hb hts in_X2 hown hK hP 0 rfl rfl 1 (by decide) (hts _ q162) (fun _ h9 => h9) rfl dX2_leave_16 ?_
          refine lv_iload_n hx hb dX2_leave_19 rfl (lv_at hl 0 rfl) ?_
          refine q_iald (v := (nI b9)) hx hb hK hP 1 0 rfl rfl (by omega) (by decide) eb dX2_leave_20 ?_
          refine lv_iload_n hx hb dX2_leave_21 rfl (lv_at hl 3 rfl) ?_
          refine q_icmp_eq (tgt := 31) hx hb (by omega) (by omega) dX2_leave_22 (by decide) (fun hc => ?_) (fun hc => ?_)
          · exact absurd hc hba
          · refine lv_iinc (v := (nI (64 * q_wh L a + (i + 1)))) (lv' := [(3, .int (nI (64 * q_wh L a + (i + 1)))), (2, .int (nI (q_wh L a))), (0, .ref (ad 0)), (1, .int (nI a))]) hx hb dX2_leave_25 hl (k := 0) rfl (q_inc1 (64 * q_wh L a + i)) (by decide) rfl (fun ls hl => ?_)
            refine lv_goto (tgt := 15) hx hb dX2_leave_28 (by decide) ?_
            exact ih (i + 1) (by omega) (by omega) ls (lv_sub hl [0, 1, 2, 3] rfl)
        · refine lv_aload_n hx hb dX2_leave_15 rfl (lv_at hl 2 rfl) ?_
          refine va_get (D := (dC, dI)) (ci := 1) (v := .ref (ad 1)) (C := RX2) (T := TX2) (N := 10) hx hb hts in_X2 hown hK hP 0 rfl rfl 1 (by decide) (hts _ q162) (fun _ h9 => h9) rfl dX2_leave_16 ?_
          refine lv_iload_n hx hb dX2_leave_19 rfl (lv_at hl 0 rfl) ?_
          refine q_iald (v := (nI a)) hx hb hK hP 1 0 rfl rfl (by omega) (by decide) (by rw [show i = p9 by omega]; exact heq9) dX2_leave_20 ?_
          refine lv_iload_n hx hb dX2_leave_21 rfl (lv_at hl 3 rfl) ?_
          refine q_icmp_eq (tgt := 31) hx hb (by omega) (by omega) dX2_leave_22 (by decide) (fun hc => ?_) (fun hc => ?_)
          · refine lv_aload_n hx hb dX2_leave_31 rfl (lv_at hl 2 rfl) ?_
            refine va_get (D := (dC, dI)) (ci := 1) (v := .ref (ad 2)) (C := RX2) (T := TX2) (N := 10) hx hb hts in_X2 hown hK hP 0 rfl rfl 2 (by decide) (hts _ q163) (fun _ h9 => h9) rfl dX2_leave_32 ?_
            refine lv_iload_n hx hb dX2_leave_35 rfl (lv_at hl 1 rfl) ?_
            refine lv_dup2_11 hx hb dX2_leave_36 rfl rfl ?_
            refine q_iald (v := (nI (n9 + 1))) hx hb hK hP 2 0 rfl rfl (by omega) (by decide) ema dX2_leave_37 ?_
            refine lv_iconst (v := (nI 1)) hx hb dX2_leave_38 (by decide) ?_
            refine q_isub hx hb (by omega) dX2_leave_39 ?_
            refine q_top (y := (nI n9)) (by rw [Nat.add_sub_cancel]) ?_
            refine q_iast (g := (upd ma (q_wh L a) (nI n9))) hx hb hK hP hD hS 2 0 rfl rfl (by omega) (by decide) rfl dX2_leave_40 (fun H locs hP hD hS => ?_)
            have hP : va_P (dC, dI) vwCl (mw ad ci cz li (upd ma (q_wh L a) (nI n9)) wo di ba cp tg hi mi go) H := hP
            have hD : va_D A (mw ad ci cz li (upd ma (q_wh L a) (nI n9)) wo di ba cp tg hi mi go) := hD
            obtain rfl : i = p9 := by omega
            exact loop2 (n9 + 1) i (by omega) (by omega) (by omega) _ _ ls (by rw [q_shl_0]; exact hP) (by rw [q_shl_0]; exact hD) hS (lv_sub hl [0, 1, 2, 3] rfl)
          · exact absurd rfl hc
    refine lv_bipush (v := (nI 64)) hx hb dX2_leave_10 (by decide) ?_
    refine lv_iload_n hx hb dX2_leave_12 rfl (lv_at hl 0 rfl) ?_
    refine q_imul hx hb dX2_leave_13 ?_
    refine lv_istore_n (lv' := [(3, .int (nI (64 * (q_wh L a)))), (2, .int (nI (q_wh L a))), (0, .ref (ad 0)), (1, .int (nI a))]) hx hb dX2_leave_14 rfl hl (by decide) rfl (fun ls hl => ?_)
    exact loop1 (p9 + 1) 0 (by omega) (by omega) ls (lv_sub hl [0, 1, 2, 3] rfl)
/-- come(a, k) -/
abbrev wsX2_come : List Cond := ws_ yX2_come cX2_come 4 none
set_option maxHeartbeats 4000000 in
set_option maxRecDepth 100000 in
theorem metX2_come (l : Launch) (dC : Nat → ClassId) (dI : Nat → Nat → Nat) (ci cz : ClassId) (ad : Nat → Nat) (sz : Nat) (li ma wo di ba : Nat → Int32) (cp tg hi mi go : Int32) {L : Nat → List Nat} {a k : Nat} (hok : q_ok L) (hR : m_rep L li ma) (ha : a < 64) (hk1 : 1 ≤ k) (hk4 : k ≤ 4) : Met l yX2_come wsX2_come ({ frames := 2, cells := 0, slots := 0, locals := 47 }) (va_Pc [.ref (ad 0), .int (nI a), .int (nI k)] (q_Pre dC dI ci cz sz (mw ad ci cz li ma wo di ba cp tg hi mi go))) (va_Qv (fun u : m_U => m_rep (q_mv L a k) u.1 u.2) (mB dC dI ci cz (va_A (mw ad ci cz li ma wo di ba cp tg hi mi go) sz) ad wo di ba cp tg hi mi go) (va_A (mw ad ci cz li ma wo di ba cp tg hi mi go) sz)) 0 0 (va_A (mw ad ci cz li ma wo di ba cp tg hi mi go) sz) := by
  refine Met.ofW (cc := cX2_come) (maxL := 4) (ret := none) (by decide) rfl ?_
  intro p e s m args below meth c s₁ B hml hv
  obtain ⟨rfl, hsz, hP, hK, hD0⟩ := hv
  have hx := B.exec
  have hb := B.bytes
  have hr := B.returns
  have hts := atoms_spec (ws := wsX2_come) B.pre
  have hts : ∀ w ∈ lw_all, w.before _ s = true := fun w h => hts w (List.mem_cons_of_mem _ h)
  have hown : s.vm.findClass RX2 = some m.cls := findClass_of_methodNamed B.named
  have hlocks := B.notSynchronized
  subst hsz
  have hD := hD0.self (sz := s.heap.size)
  generalize hAe : va_A (mw ad ci cz li ma wo di ba cp tg hi mi go) s.heap.size = A at hD ⊢
  have hA : ∀ q : Nat, s.heap.size ≤ q → A q := fun q h => by rw [← hAe]; exact Or.inr h
  have hS : va_S A s.heap s.heap [] := va_S.rf
  have hP : va_P (dC, dI) vwCl (mw ad ci cz li ma wo di ba cp tg hi mi go) s.heap := hP
  have hl := lv_entry ([.ref (ad 0), .int (nI a), .int (nI k)]) (n := 4) (Nat.le_of_ble_eq_true rfl)
  rw [lg_entry_eq]
  generalize (lg_sl ([.ref (ad 0), .int (nI a), .int (nI k)]) ++ List.replicate (4 - (lg_sl ([.ref (ad 0), .int (nI a), .int (nI k)])).length) Slot.unset).toArray = ls at hl ⊢
  have hl : lv_has ls 4 [(0, .ref (ad 0)), (1, .int (nI a)), (2, .int (nI k))] := hl
  refine lv_aload_n hx hb dX2_come_0 rfl (lv_at hl 0 rfl) ?_
  refine lv_iload_n hx hb dX2_come_1 rfl (lv_at hl 1 rfl) ?_
  have hFc := va_free (wc := (mw ad ci cz li ma wo di ba cp tg hi mi go)) hD hS hA [0, 1, 2, 3, 4, 5] rfl
  refine va_callv (va_runV (As := [.int (nI a)]) (rest := []) ⟨hx, hb, hml, hown, hts⟩ (metX2_leave l dC dI ci cz ad s.heap.size li ma wo di ba cp tg hi mi go hok hR ha) (cwV 1 hts (lw_V q216 q218 qs9 q17 q219) rfl rfl rfl (by decide +kernel) ⟨Nat.le_of_ble_eq_true rfl, Nat.le_of_ble_eq_true rfl⟩) ⟨q_blind, va_recv hK hP (ci := 1) (q0 := 0) rfl rfl, fun U hU hW => q_ent hP hK hD hU hW⟩ rfl rfl hl.1 rfl (lv_room (Nat.le_of_ble_eq_true rfl)) dX2_come_2 ⟨Nat.le_of_ble_eq_true rfl, Nat.le_of_ble_eq_true rfl⟩) hS (fun q _ h => hFc q h) hFc (fun  u t H1 locs ht hvm hw hB hzq hkq hS => ?_)
  obtain ⟨li1, ma1⟩ := u
  obtain ⟨hP1, hK1, hD1⟩ := hB
  rw [ht] at hP1
  have hP : va_P (dC, dI) vwCl (mw ad ci cz li1 ma1 wo di ba cp tg hi mi go) H1 := hP1
  have hD : va_D A (mw ad ci cz li1 ma1 wo di ba cp tg hi mi go) := hD1.weaken (fun k q _ h => hFc q.1 h)
  have hw : m_rep (q_rm L a) li1 ma1 := hw
  generalize H1 = H at hP hS ⊢
  obtain ⟨n9, hn64, ema, hR9⟩ := m_cm (q_ok_rm hok) hw ha (q_rm_no hok) hk1 hk4
  have e9 : q_mv L a k = q_ins (q_rm L a) a k := if_neg (by omega)
  have loop : ∀ (n i : Nat), i ≤ n9 → i < n → ∀ (H : Heap) (locs : List Loc) (ls : Array Slot), va_P (dC, dI) vwCl (mw ad ci cz (q_shr li1 (64 * k + i) (64 * k + n9)) ma1 wo di ba cp tg hi mi go) H → va_D A (mw ad ci cz (q_shr li1 (64 * k + i) (64 * k + n9)) ma1 wo di ba cp tg hi mi go) → va_S A s.heap H locs → lv_has ls 4 [(3, .int (nI (64 * k + i))), (0, .ref (ad 0)), (1, .int (nI a)), (2, .int (nI k))] → W p l e (headSpec wsX2_come ({ frames := 2, cells := 0, slots := 0, locals := 47 })).room s m ([.ref (ad 0), .int (nI a), .int (nI k)] : List Value).toArray below meth c H locs 0 0 (MQ below (va_Qv (fun u : m_U => m_rep (q_mv L a k) u.1 u.2) (mB dC dI ci cz A ad wo di ba cp tg hi mi go) A) ([.ref (ad 0), .int (nI a), .int (nI k)] : List Value).toArray s 0 0 A) (F0 m 17 ls []) := by
    intro n
    induction n with
    | zero => intro i h1 h2; exact absurd h2 (by omega)
    | succ n ih =>
      intro i hi9 hn9 H locs ls hP hD hS hl
      refine lv_iload_n hx hb dX2_come_17 rfl (lv_at hl 0 rfl) ?_
      refine lv_bipush (v := (nI 64)) hx hb dX2_come_18 (by decide) ?_
      refine lv_iload_n hx hb dX2_come_20 rfl (lv_at hl 3 rfl) ?_
      refine q_imul hx hb dX2_come_21 ?_
      refine q_icmp_le (tgt := 45) hx hb (by omega) (by omega) dX2_come_22 (by decide) (fun hc => ?_) (fun hc => ?_)
      · obtain rfl : i = 0 := by omega
        refine lv_aload_n hx hb dX2_come_45 rfl (lv_at hl 1 rfl) ?_
        refine va_get (D := (dC, dI)) (ci := 1) (v := .ref (ad 1)) (C := RX2) (T := TX2) (N := 10) hx hb hts in_X2 hown hK hP 0 rfl rfl 1 (by decide) (hts _ q162) (fun _ h9 => h9) rfl dX2_come_46 ?_
        refine lv_bipush (v := (nI 64)) hx hb dX2_come_49 (by decide) ?_
        refine lv_iload_n hx hb dX2_come_51 rfl (lv_at hl 3 rfl) ?_
        refine q_imul hx hb dX2_come_52 ?_
        refine lv_iload_n hx hb dX2_come_53 rfl (lv_at hl 2 rfl) ?_
        refine q_iast (g := (upd (q_shr li1 (64 * k) (64 * k + n9)) (64 * k) (nI a))) hx hb hK hP hD hS 1 0 rfl rfl (by omega) (by decide) rfl dX2_come_54 (fun H locs hP hD hS => ?_)
        have hP : va_P (dC, dI) vwCl (mw ad ci cz (upd (q_shr li1 (64 * k) (64 * k + n9)) (64 * k) (nI a)) ma1 wo di ba cp tg hi mi go) H := hP
        have hD : va_D A (mw ad ci cz (upd (q_shr li1 (64 * k) (64 * k + n9)) (64 * k) (nI a)) ma1 wo di ba cp tg hi mi go) := hD
        refine lv_aload_n hx hb dX2_come_55 rfl (lv_at hl 1 rfl) ?_
        refine va_get (D := (dC, dI)) (ci := 1) (v := .ref (ad 2)) (C := RX2) (T := TX2) (N := 10) hx hb hts in_X2 hown hK hP 0 rfl rfl 2 (by decide) (hts _ q163) (fun _ h9 => h9) rfl dX2_come_56 ?_
        refine lv_iload_n hx hb dX2_come_59 rfl (lv_at hl 3 rfl) ?_
        refine lv_dup2_11 hx hb dX2_come_60 rfl rfl ?_
        refine q_iald (v := (nI n9)) hx hb hK hP 2 0 rfl rfl (by omega) (by decide) ema dX2_come_61 ?_
        refine lv_iconst (v := (nI 1)) hx hb dX2_come_62 (by decide) ?_
        refine q_iadd hx hb dX2_come_63 ?_
        refine q_iast (g := (upd ma1 k (nI (n9 + 1)))) hx hb hK hP hD hS 2 0 rfl rfl (by omega) (by decide) rfl dX2_come_64 (fun H locs hP hD hS => ?_)
        have hP : va_P (dC, dI) vwCl (mw ad ci cz (upd (q_shr li1 (64 * k) (64 * k + n9)) (64 * k) (nI a)) (upd ma1 k (nI (n9 + 1))) wo di ba cp tg hi mi go) H := hP
        have hD : va_D A (mw ad ci cz (upd (q_shr li1 (64 * k) (64 * k + n9)) (64 * k) (nI a)) (upd ma1 k (nI (n9 + 1))) wo di ba cp tg hi mi go) := hD
        exact W.vret hx hb hr (fun t ht hW => ⟨⟨((upd (q_shr li1 (64 * k) (64 * k + n9)) (64 * k) (nI a)), (upd ma1 k (nI (n9 + 1)))), rfl, (by rw [e9]; exact hR9), by rw [ht]; exact hP, va_K.moved hW.alike hK, hD⟩, hS.F ht⟩) hS.2.2 dX2_come_65
      · obtain ⟨i8, rfl⟩ : ∃ i8, i = i8 + 1 := ⟨i - 1, by omega⟩
        refine lv_aload_n hx hb dX2_come_25 rfl (lv_at hl 1 rfl) ?_
        refine va_get (D := (dC, dI)) (ci := 1) (v := .ref (ad 1)) (C := RX2) (T := TX2) (N := 10) hx hb hts in_X2 hown hK hP 0 rfl rfl 1 (by decide) (hts _ q162) (fun _ h9 => h9) rfl dX2_come_26 ?_
        refine lv_iload_n hx hb dX2_come_29 rfl (lv_at hl 0 rfl) ?_
        refine lv_aload_n hx hb dX2_come_30 rfl (lv_at hl 1 rfl) ?_
        refine va_get (D := (dC, dI)) (ci := 1) (v := .ref (ad 1)) (C := RX2) (T := TX2) (N := 10) hx hb hts in_X2 hown hK hP 0 rfl rfl 1 (by decide) (hts _ q162) (fun _ h9 => h9) rfl dX2_come_31 ?_
        refine lv_iload_n hx hb dX2_come_34 rfl (lv_at hl 0 rfl) ?_
        refine lv_iconst (v := (nI 1)) hx hb dX2_come_35 (by decide) ?_
        refine q_isub hx hb (by omega) dX2_come_36 ?_
        refine q_top (y := (nI (64 * k + i8))) (by rw [show 64 * k + (i8 + 1) - 1 = 64 * k + i8 by omega]) ?_
        refine q_iald (v := (li1 (64 * k + i8))) hx hb hK hP 1 0 rfl rfl (by omega) (by decide) (q_shr_at li1) dX2_come_37 ?_
        refine q_iast (g := (q_shr li1 (64 * k + i8) (64 * k + n9))) hx hb hK hP hD hS 1 0 rfl rfl (by omega) (by decide) (q_shr_s (i := 64 * k + i8) (e := 64 * k + n9) li1 (by omega)) dX2_come_38 (fun H locs hP hD hS => ?_)
        have hP : va_P (dC, dI) vwCl (mw ad ci cz (q_shr li1 (64 * k + i8) (64 * k + n9)) ma1 wo di ba cp tg hi mi go) H := hP
        have hD : va_D A (mw ad ci cz (q_shr li1 (64 * k + i8) (64 * k + n9)) ma1 wo di ba cp tg hi mi go) := hD
        refine lv_iinc (v := (nI (64 * k + i8))) (lv' := [(3, .int (nI (64 * k + i8))), (0, .ref (ad 0)), (1, .int (nI a)), (2, .int (nI k))]) hx hb dX2_come_39 hl (k := 0) rfl (q_dec1 (64 * k + i8)) (by decide) rfl (fun ls hl => ?_)
        refine lv_goto (tgt := 17) hx hb dX2_come_42 (by decide) ?_
        exact ih i8 (by omega) (by omega) H locs ls hP hD hS (lv_sub hl [0, 1, 2, 3] rfl)
  refine lv_bipush (v := (nI 64)) hx hb dX2_come_5 (by decide) ?_
  refine lv_iload_n hx hb dX2_come_7 rfl (lv_at hl 2 rfl) ?_
  refine q_imul hx hb dX2_come_8 ?_
  refine lv_aload_n hx hb dX2_come_9 rfl (lv_at hl 0 rfl) ?_
  refine va_get (D := (dC, dI)) (ci := 1) (v := .ref (ad 2)) (C := RX2) (T := TX2) (N := 10) hx hb hts in_X2 hown hK hP 0 rfl rfl 2 (by decide) (hts _ q163) (fun _ h9 => h9) rfl dX2_come_10 ?_
  refine lv_iload_n hx hb dX2_come_13 rfl (lv_at hl 2 rfl) ?_
  refine q_iald (v := (nI n9)) hx hb hK hP 2 0 rfl rfl (by omega) (by decide) ema dX2_come_14 ?_
  refine q_iadd hx hb dX2_come_15 ?_
  refine lv_istore_n (lv' := [(3, .int (nI ((64 * k) + n9))), (0, .ref (ad 0)), (1, .int (nI a)), (2, .int (nI k))]) hx hb dX2_come_16 rfl hl (by decide) rfl (fun ls hl => ?_)
  exact loop (n9 + 1) n9 (by omega) (by omega) _ _ ls (by rw [q_shr_0]; exact hP) (by rw [q_shr_0]; exact hD) hS (lv_sub hl [0, 1, 2, 3] rfl)
end
section
/-- old(k) -/
abbrev wsX2_old : List Cond := ws_ yX2_old cX2_old 2 (some .int)
set_option maxHeartbeats 4000000 in
set_option maxRecDepth 100000 in
theorem metX2_old (l : Launch) (dC : Nat → ClassId) (dI : Nat → Nat → Nat) (ci cz : ClassId) (ad : Nat → Nat) (sz : Nat) (li ma wo di ba : Nat → Int32) (cp tg hi mi go : Int32) {L : Nat → List Nat} {k : Nat} (hok : q_ok L) (hR : m_rep L li ma) (hk1 : 1 ≤ k) (hk4 : k ≤ 4) (hne : L k ≠ []) : Met l yX2_old wsX2_old ({ frames := 0, cells := 0, slots := 0, locals := 0 }) (va_Pc [.ref (ad 0), .int (nI k)] (q_Pre dC dI ci cz sz (mw ad ci cz li ma wo di ba cp tg hi mi go))) (va_Qi (fun (r : Int32) (_ : Unit) => r = nI (q_last 0 (L k))) (fun (_ : Unit) t => q_Post dC dI ci cz (va_A (mw ad ci cz li ma wo di ba cp tg hi mi go) sz) (mw ad ci cz li ma wo di ba cp tg hi mi go) t) (va_A (mw ad ci cz li ma wo di ba cp tg hi mi go) sz)) 0 0 (va_A (mw ad ci cz li ma wo di ba cp tg hi mi go) sz) := by
  refine Met.ofW (cc := cX2_old) (maxL := 2) (ret := (some .int)) (by decide) rfl ?_
  intro p e s m args below meth c s₁ B hml hv
  obtain ⟨rfl, hsz, hP, hK, hD0⟩ := hv
  have hx := B.exec
  have hb := B.bytes
  have hr := B.returns
  have hts := atoms_spec (ws := wsX2_old) B.pre
  have hts : ∀ w ∈ lw_all, w.before _ s = true := fun w h => hts w (List.mem_cons_of_mem _ h)
  have hown : s.vm.findClass RX2 = some m.cls := findClass_of_methodNamed B.named
  have hlocks := B.notSynchronized
  subst hsz
  have hD := hD0.self (sz := s.heap.size)
  generalize hAe : va_A (mw ad ci cz li ma wo di ba cp tg hi mi go) s.heap.size = A at hD ⊢
  have hA : ∀ q : Nat, s.heap.size ≤ q → A q := fun q h => by rw [← hAe]; exact Or.inr h
  have hS : va_S A s.heap s.heap [] := va_S.rf
  have hP : va_P (dC, dI) vwCl (mw ad ci cz li ma wo di ba cp tg hi mi go) s.heap := hP
  have hl := lv_entry ([.ref (ad 0), .int (nI k)]) (n := 2) (Nat.le_of_ble_eq_true rfl)
  rw [lg_entry_eq]
  generalize (lg_sl ([.ref (ad 0), .int (nI k)]) ++ List.replicate (2 - (lg_sl ([.ref (ad 0), .int (nI k)])).length) Slot.unset).toArray = ls at hl ⊢
  have hl : lv_has ls 2 [(0, .ref (ad 0)), (1, .int (nI k))] := hl
  obtain ⟨h0, h64, e9⟩ := m_old hok hR hk1 hk4 hne
  refine lv_aload_n hx hb dX2_old_0 rfl (lv_at hl 0 rfl) ?_
  refine va_get (D := (dC, dI)) (ci := 1) (v := .ref (ad 1)) (C := RX2) (T := TX2) (N := 10) hx hb hts in_X2 hown hK hP 0 rfl rfl 1 (by decide) (hts _ q162) (fun _ h9 => h9) rfl dX2_old_1 ?_
  refine lv_bipush (v := (nI 64)) hx hb dX2_old_4 (by decide) ?_
  refine lv_iload_n hx hb dX2_old_6 rfl (lv_at hl 1 rfl) ?_
  refine q_imul hx hb dX2_old_7 ?_
  refine lv_aload_n hx hb dX2_old_8 rfl (lv_at hl 0 rfl) ?_
  refine va_get (D := (dC, dI)) (ci := 1) (v := .ref (ad 2)) (C := RX2) (T := TX2) (N := 10) hx hb hts in_X2 hown hK hP 0 rfl rfl 2 (by decide) (hts _ q163) (fun _ h9 => h9) rfl dX2_old_9 ?_
  refine lv_iload_n hx hb dX2_old_12 rfl (lv_at hl 1 rfl) ?_
  refine q_iald (v := (nI ((L k).length))) hx hb hK hP 2 0 rfl rfl (by omega) (by decide) (hR.1 k hk1 hk4) dX2_old_13 ?_
  refine q_iadd hx hb dX2_old_14 ?_
  refine lv_iconst (v := (nI 1)) hx hb dX2_old_15 (by decide) ?_
  refine q_isub hx hb (by omega) dX2_old_16 ?_
  refine q_iald (v := (nI (q_last 0 (L k)))) hx hb hK hP 1 0 rfl rfl (by omega) (by decide) e9 dX2_old_17 ?_
  exact W.iret (v := (nI (q_last 0 (L k)))) hx hb hr (fun t ht hW => ⟨⟨(nI (q_last 0 (L k))), (), rfl, rfl, by rw [ht]; exact hP, va_K.moved hW.alike hK, hD⟩, hS.F ht⟩) hS.2.2 dX2_old_18
/-- clean(a) -/
abbrev wsX2_clean : List Cond := ws_ yX2_clean cX2_clean 2 none
set_option maxHeartbeats 4000000 in
set_option maxRecDepth 100000 in
theorem metX2_clean (l : Launch) (dC : Nat → ClassId) (dI : Nat → Nat → Nat) (ci cz : ClassId) (ad : Nat → Nat) (sz : Nat) (li ma wo di ba : Nat → Int32) (cp tg hi mi go : Int32) {a : Nat} (ha : a < 64) : Met l yX2_clean wsX2_clean ({ frames := 0, cells := 0, slots := 0, locals := 0 }) (va_Pc [.ref (ad 0), .int (nI a)] (q_Pre dC dI ci cz sz (mw ad ci cz li ma wo di ba cp tg hi mi go))) (va_Qv (fun (_ : Unit) => True) (fun (_ : Unit) t => q_Post dC dI ci cz (va_A (mw ad ci cz li ma wo di ba cp tg hi mi go) sz) (mw ad ci cz li ma wo (upd di a (nI 0)) (q_gb wo ba di a) cp tg hi mi go) t) (va_A (mw ad ci cz li ma wo di ba cp tg hi mi go) sz)) 0 0 (va_A (mw ad ci cz li ma wo di ba cp tg hi mi go) sz) := by
  refine Met.ofW (cc := cX2_clean) (maxL := 2) (ret := none) (by decide) rfl ?_
  intro p e s m args below meth c s₁ B hml hv
  obtain ⟨rfl, hsz, hP, hK, hD0⟩ := hv
  have hx := B.exec
  have hb := B.bytes
  have hr := B.returns
  have hts := atoms_spec (ws := wsX2_clean) B.pre
  have hts : ∀ w ∈ lw_all, w.before _ s = true := fun w h => hts w (List.mem_cons_of_mem _ h)
  have hown : s.vm.findClass RX2 = some m.cls := findClass_of_methodNamed B.named
  have hlocks := B.notSynchronized
  subst hsz
  have hD := hD0.self (sz := s.heap.size)
  generalize hAe : va_A (mw ad ci cz li ma wo di ba cp tg hi mi go) s.heap.size = A at hD ⊢
  have hA : ∀ q : Nat, s.heap.size ≤ q → A q := fun q h => by rw [← hAe]; exact Or.inr h
  have hS : va_S A s.heap s.heap [] := va_S.rf
  have hP : va_P (dC, dI) vwCl (mw ad ci cz li ma wo di ba cp tg hi mi go) s.heap := hP
  have hl := lv_entry ([.ref (ad 0), .int (nI a)]) (n := 2) (Nat.le_of_ble_eq_true rfl)
  rw [lg_entry_eq]
  generalize (lg_sl ([.ref (ad 0), .int (nI a)]) ++ List.replicate (2 - (lg_sl ([.ref (ad 0), .int (nI a)])).length) Slot.unset).toArray = ls at hl ⊢
  have hl : lv_has ls 2 [(0, .ref (ad 0)), (1, .int (nI a))] := hl
  refine lv_aload_n hx hb dX2_clean_0 rfl (lv_at hl 0 rfl) ?_
  refine va_get (D := (dC, dI)) (ci := 1) (v := .ref (ad 3)) (C := RX2) (T := TX2) (N := 10) hx hb hts in_X2 hown hK hP 0 rfl rfl 3 (by decide) (hts _ q164) (fun _ h9 => h9) rfl dX2_clean_1 ?_
  refine lv_iload_n hx hb dX2_clean_4 rfl (lv_at hl 1 rfl) ?_
  refine lv_aload_n hx hb dX2_clean_5 rfl (lv_at hl 0 rfl) ?_
  refine va_get (D := (dC, dI)) (ci := 1) (v := .ref (ad 5)) (C := RX2) (T := TX2) (N := 10) hx hb hts in_X2 hown hK hP 0 rfl rfl 5 (by decide) (hts _ q166) (fun _ h9 => h9) rfl dX2_clean_6 ?_
  refine lv_iload_n hx hb dX2_clean_9 rfl (lv_at hl 1 rfl) ?_
  refine q_zald (v := (di a)) hx hb hK hP 5 1 rfl rfl (by omega) (by decide) rfl dX2_clean_10 ?_
  refine q_bf_eq (tgt := 23) hx hb dX2_clean_11 (by decide) (fun hc => ?_) (fun hc => ?_)
  · refine lv_aload_n hx hb dX2_clean_23 rfl (lv_at hl 0 rfl) ?_
    refine va_get (D := (dC, dI)) (ci := 1) (v := .ref (ad 3)) (C := RX2) (T := TX2) (N := 10) hx hb hts in_X2 hown hK hP 0 rfl rfl 3 (by decide) (hts _ q164) (fun _ h9 => h9) rfl dX2_clean_24 ?_
    refine lv_iload_n hx hb dX2_clean_27 rfl (lv_at hl 1 rfl) ?_
    refine q_iald (v := (ba a)) hx hb hK hP 3 0 rfl rfl (by omega) (by decide) rfl dX2_clean_28 ?_
    refine q_iast (g := (q_gb wo ba di a)) hx hb hK hP hD hS 3 0 rfl rfl (by omega) (by decide) ((q_upd_self rfl).trans (if_pos hc).symm) dX2_clean_29 (fun H locs hP hD hS => ?_)
    have hP : va_P (dC, dI) vwCl (mw ad ci cz li ma wo di (q_gb wo ba di a) cp tg hi mi go) H := hP
    have hD : va_D A (mw ad ci cz li ma wo di (q_gb wo ba di a) cp tg hi mi go) := hD
    refine lv_aload_n hx hb dX2_clean_30 rfl (lv_at hl 0 rfl) ?_
    refine va_get (D := (dC, dI)) (ci := 1) (v := .ref (ad 5)) (C := RX2) (T := TX2) (N := 10) hx hb hts in_X2 hown hK hP 0 rfl rfl 5 (by decide) (hts _ q166) (fun _ h9 => h9) rfl dX2_clean_31 ?_
    refine lv_iload_n hx hb dX2_clean_34 rfl (lv_at hl 1 rfl) ?_
    refine lv_iconst (v := (nI 0)) hx hb dX2_clean_35 (by decide) ?_
    refine q_zast (g := (upd di a (nI 0))) hx hb hK hP hD hS 5 1 rfl rfl (by omega) (by decide) (by decide) rfl dX2_clean_36 (fun H locs hP hD hS => ?_)
    have hP : va_P (dC, dI) vwCl (mw ad ci cz li ma wo (upd di a (nI 0)) (q_gb wo ba di a) cp tg hi mi go) H := hP
    have hD : va_D A (mw ad ci cz li ma wo (upd di a (nI 0)) (q_gb wo ba di a) cp tg hi mi go) := hD
    exact W.vret hx hb hr (fun t ht hW => ⟨⟨(), rfl, trivial, by rw [ht]; exact hP, va_K.moved hW.alike hK, hD⟩, hS.F ht⟩) hS.2.2 dX2_clean_37
  · refine lv_aload_n hx hb dX2_clean_14 rfl (lv_at hl 0 rfl) ?_
    refine va_get (D := (dC, dI)) (ci := 1) (v := .ref (ad 4)) (C := RX2) (T := TX2) (N := 10) hx hb hts in_X2 hown hK hP 0 rfl rfl 4 (by decide) (hts _ q165) (fun _ h9 => h9) rfl dX2_clean_15 ?_
    refine lv_iload_n hx hb dX2_clean_18 rfl (lv_at hl 1 rfl) ?_
    refine q_iald (v := (wo a)) hx hb hK hP 4 0 rfl rfl (by omega) (by decide) rfl dX2_clean_19 ?_
    refine lv_goto (tgt := 29) hx hb dX2_clean_20 (by decide) ?_
    refine q_iast (g := (q_gb wo ba di a)) hx hb hK hP hD hS 3 0 rfl rfl (by omega) (by decide) ((if_neg hc).symm) dX2_clean_29 (fun H locs hP hD hS => ?_)
    have hP : va_P (dC, dI) vwCl (mw ad ci cz li ma wo di (q_gb wo ba di a) cp tg hi mi go) H := hP
    have hD : va_D A (mw ad ci cz li ma wo di (q_gb wo ba di a) cp tg hi mi go) := hD
    refine lv_aload_n hx hb dX2_clean_30 rfl (lv_at hl 0 rfl) ?_
    refine va_get (D := (dC, dI)) (ci := 1) (v := .ref (ad 5)) (C := RX2) (T := TX2) (N := 10) hx hb hts in_X2 hown hK hP 0 rfl rfl 5 (by decide) (hts _ q166) (fun _ h9 => h9) rfl dX2_clean_31 ?_
    refine lv_iload_n hx hb dX2_clean_34 rfl (lv_at hl 1 rfl) ?_
    refine lv_iconst (v := (nI 0)) hx hb dX2_clean_35 (by decide) ?_
    refine q_zast (g := (upd di a (nI 0))) hx hb hK hP hD hS 5 1 rfl rfl (by omega) (by decide) (by decide) rfl dX2_clean_36 (fun H locs hP hD hS => ?_)
    have hP : va_P (dC, dI) vwCl (mw ad ci cz li ma wo (upd di a (nI 0)) (q_gb wo ba di a) cp tg hi mi go) H := hP
    have hD : va_D A (mw ad ci cz li ma wo (upd di a (nI 0)) (q_gb wo ba di a) cp tg hi mi go) := hD
    exact W.vret hx hb hr (fun t ht hW => ⟨⟨(), rfl, trivial, by rw [ht]; exact hP, va_K.moved hW.alike hK, hD⟩, hS.F ht⟩) hS.2.2 dX2_clean_37
/-- go(a) -/
abbrev wsX2_go : List Cond := ws_ yX2_go cX2_go 2 none
set_option maxHeartbeats 4000000 in
set_option maxRecDepth 100000 in
theorem metX2_go (l : Launch) (dC : Nat → ClassId) (dI : Nat → Nat → Nat) (ci cz : ClassId) (ad : Nat → Nat) (sz : Nat) (li ma wo di ba : Nat → Int32) (cp tg hi mi go : Int32) {a : Nat} (ha : a < 64) : Met l yX2_go wsX2_go ({ frames := 1, cells := 0, slots := 0, locals := 21 }) (va_Pc [.ref (ad 0), .int (nI a)] (q_Pre dC dI ci cz sz (mw ad ci cz li ma wo di ba cp tg hi mi go))) (va_Qv (fun (_ : Unit) => True) (fun (_ : Unit) t => q_Post dC dI ci cz (va_A (mw ad ci cz li ma wo di ba cp tg hi mi go) sz) (mw ad ci cz li ma wo (upd di a (nI 0)) (q_gb wo ba di a) cp tg hi mi (go + nI 1)) t) (va_A (mw ad ci cz li ma wo di ba cp tg hi mi go) sz)) 0 0 (va_A (mw ad ci cz li ma wo di ba cp tg hi mi go) sz) := by
  refine Met.ofW (cc := cX2_go) (maxL := 2) (ret := none) (by decide) rfl ?_
  intro p e s m args below meth c s₁ B hml hv
  obtain ⟨rfl, hsz, hP, hK, hD0⟩ := hv
  have hx := B.exec
  have hb := B.bytes
  have hr := B.returns
  have hts := atoms_spec (ws := wsX2_go) B.pre
  have hts : ∀ w ∈ lw_all, w.before _ s = true := fun w h => hts w (List.mem_cons_of_mem _ h)
  have hown : s.vm.findClass RX2 = some m.cls := findClass_of_methodNamed B.named
  have hlocks := B.notSynchronized
  subst hsz
  have hD := hD0.self (sz := s.heap.size)
  generalize hAe : va_A (mw ad ci cz li ma wo di ba cp tg hi mi go) s.heap.size = A at hD ⊢
  have hA : ∀ q : Nat, s.heap.size ≤ q → A q := fun q h => by rw [← hAe]; exact Or.inr h
  have hS : va_S A s.heap s.heap [] := va_S.rf
  have hP : va_P (dC, dI) vwCl (mw ad ci cz li ma wo di ba cp tg hi mi go) s.heap := hP
  have hl := lv_entry ([.ref (ad 0), .int (nI a)]) (n := 2) (Nat.le_of_ble_eq_true rfl)
  rw [lg_entry_eq]
  generalize (lg_sl ([.ref (ad 0), .int (nI a)]) ++ List.replicate (2 - (lg_sl ([.ref (ad 0), .int (nI a)])).length) Slot.unset).toArray = ls at hl ⊢
  have hl : lv_has ls 2 [(0, .ref (ad 0)), (1, .int (nI a))] := hl
  refine lv_aload_n hx hb dX2_go_0 rfl (lv_at hl 0 rfl) ?_
  refine lv_iload_n hx hb dX2_go_1 rfl (lv_at hl 1 rfl) ?_
  have hFc := va_free (wc := (mw ad ci cz li ma wo di ba cp tg hi mi go)) hD hS hA [0, 1, 2, 3, 4, 5] rfl
  refine va_callv (va_runV (As := [.int (nI a)]) (rest := []) ⟨hx, hb, hml, hown, hts⟩ (metX2_clean l dC dI ci cz ad s.heap.size li ma wo di ba cp tg hi mi go ha) (cwV 1 hts (lw_V q236 q238 qs14 q17 q239) rfl rfl rfl (by decide +kernel) ⟨Nat.le_of_ble_eq_true rfl, Nat.le_of_ble_eq_true rfl⟩) ⟨q_blind, va_recv hK hP (ci := 1) (q0 := 0) rfl rfl, fun U hU hW => q_ent hP hK hD hU hW⟩ rfl rfl hl.1 rfl (lv_room (Nat.le_of_ble_eq_true rfl)) dX2_go_2 ⟨Nat.le_of_ble_eq_true rfl, Nat.le_of_ble_eq_true rfl⟩) hS (fun q _ h => hFc q h) hFc (fun  u t H1 locs ht hvm hw hB hzq hkq hS => ?_)
  obtain ⟨hP1, hK1, hD1⟩ := hB
  rw [ht] at hP1
  have hP : va_P (dC, dI) vwCl (mw ad ci cz li ma wo (upd di a (nI 0)) (q_gb wo ba di a) cp tg hi mi go) H1 := hP1
  have hD : va_D A (mw ad ci cz li ma wo (upd di a (nI 0)) (q_gb wo ba di a) cp tg hi mi go) := hD1.weaken (fun k q _ h => hFc q.1 h)
  generalize H1 = H at hP hS ⊢
  refine lv_aload_n hx hb dX2_go_5 rfl (lv_at hl 0 rfl) ?_
  refine lv_dup hx hb dX2_go_6 rfl ?_
  refine va_get (D := (dC, dI)) (ci := 1) (v := .int go) (C := RX2) (T := TX2) (N := 10) hx hb hts in_X2 hown hK hP 0 rfl rfl 9 (by decide) (hts _ q170) (fun _ h9 => h9) rfl dX2_go_7 ?_
  refine lv_iconst (v := (nI 1)) hx hb dX2_go_10 (by decide) ?_
  refine lv_iadd hx hb dX2_go_11 ?_
  refine va_put (D := (dC, dI)) (ci := 1) (v := .int (go + (nI 1))) (ty := .int) (C := RX2) (T := TX2) (N := 10) hx hb hts in_X2 tyX2 tyX2_ok nmX2 hown hK hP hD hS 0 rfl rfl 9 (by decide) (hts _ q170) (fun _ h9 => h9) rfl (by decide +kernel) rfl rfl (Nat.le_of_ble_eq_true rfl) dX2_go_12 (fun H locs hP hD hS => ?_)
  have hP : va_P (dC, dI) vwCl (mw ad ci cz li ma wo (upd di a (nI 0)) (q_gb wo ba di a) cp tg hi mi (go + (nI 1))) H := hP
  have hD : va_D A (mw ad ci cz li ma wo (upd di a (nI 0)) (q_gb wo ba di a) cp tg hi mi (go + (nI 1))) := hD
  exact W.vret hx hb hr (fun t ht hW => ⟨⟨(), rfl, trivial, by rw [ht]; exact hP, va_K.moved hW.alike hK, hD⟩, hS.F ht⟩) hS.2.2 dX2_go_15
/-- makeRoom(a) -/
abbrev wsX2_makeRoom : List Cond := ws_ yX2_makeRoom cX2_makeRoom 5 none
set_option maxHeartbeats 4000000 in
set_option maxRecDepth 100000 in
theorem metX2_makeRoom (l : Launch) (dC : Nat → ClassId) (dI : Nat → Nat → Nat) (ci cz : ClassId) (ad : Nat → Nat) (sz : Nat) (li ma wo di ba : Nat → Int32) (cp hi mi go : Int32) {L : Nat → List Nat} {tg a : Nat} (hok : q_ok L) (hR : m_rep L li ma) (ha : a < 64) (htg : tg ≤ 24) (hne : ¬ q_fst L tg a → L 2 ≠ []) : Met l yX2_makeRoom wsX2_makeRoom ({ frames := 3, cells := 0, slots := 0, locals := 70 }) (va_Pc [.ref (ad 0), .int (nI a)] (q_Pre dC dI ci cz sz (mw ad ci cz li ma wo di ba cp (nI tg) hi mi go))) (va_Qv (fun u : m_U => m_rep (q_mk wo tg a (L, ba, di, go)).1 u.1 u.2) (mB dC dI ci cz (va_A (mw ad ci cz li ma wo di ba cp (nI tg) hi mi go) sz) ad wo ((q_mk wo tg a (L, ba, di, go)).2.2.1) ((q_mk wo tg a (L, ba, di, go)).2.1) cp (nI tg) hi mi ((q_mk wo tg a (L, ba, di, go)).2.2.2)) (va_A (mw ad ci cz li ma wo di ba cp (nI tg) hi mi go) sz)) 0 0 (va_A (mw ad ci cz li ma wo di ba cp (nI tg) hi mi go) sz) := by
  refine Met.ofW (cc := cX2_makeRoom) (maxL := 5) (ret := none) (by decide) rfl ?_
  intro p e s m args below meth c s₁ B hml hv
  obtain ⟨rfl, hsz, hP, hK, hD0⟩ := hv
  have hx := B.exec
  have hb := B.bytes
  have hr := B.returns
  have hts := atoms_spec (ws := wsX2_makeRoom) B.pre
  have hts : ∀ w ∈ lw_all, w.before _ s = true := fun w h => hts w (List.mem_cons_of_mem _ h)
  have hown : s.vm.findClass RX2 = some m.cls := findClass_of_methodNamed B.named
  have hlocks := B.notSynchronized
  subst hsz
  have hD := hD0.self (sz := s.heap.size)
  generalize hAe : va_A (mw ad ci cz li ma wo di ba cp (nI tg) hi mi go) s.heap.size = A at hD ⊢
  have hA : ∀ q : Nat, s.heap.size ≤ q → A q := fun q h => by rw [← hAe]; exact Or.inr h
  have hS : va_S A s.heap s.heap [] := va_S.rf
  have hP : va_P (dC, dI) vwCl (mw ad ci cz li ma wo di ba cp (nI tg) hi mi go) s.heap := hP
  have hl := lv_entry ([.ref (ad 0), .int (nI a)]) (n := 5) (Nat.le_of_ble_eq_true rfl)
  rw [lg_entry_eq]
  generalize (lg_sl ([.ref (ad 0), .int (nI a)]) ++ List.replicate (5 - (lg_sl ([.ref (ad 0), .int (nI a)])).length) Slot.unset).toArray = ls at hl ⊢
  have hl : lv_has ls 5 [(0, .ref (ad 0)), (1, .int (nI a))] := hl
  have h1 := q_L64 hok 1
  have h2 := q_L64 hok 2
  have hw4 := q_wh_le L a
  have KT : q_fst L tg a → ∀ (H : Heap) (locs : List Loc), va_P (dC, dI) vwCl (mw ad ci cz li ma wo di ba cp (nI tg) hi mi go) H → va_D A (mw ad ci cz li ma wo di ba cp (nI tg) hi mi go) → va_S A s.heap H locs → W p l e (headSpec wsX2_makeRoom ({ frames := 3, cells := 0, slots := 0, locals := 70 })).room s m ([.ref (ad 0), .int (nI a)] : List Value).toArray below meth c H locs 0 0 (MQ below (va_Qv (fun u : m_U => m_rep (q_mk wo tg a (L, ba, di, go)).1 u.1 u.2) (mB dC dI ci cz A ad wo ((q_mk wo tg a (L, ba, di, go)).2.2.1) ((q_mk wo tg a (L, ba, di, go)).2.1) cp (nI tg) hi mi ((q_mk wo tg a (L, ba, di, go)).2.2.2)) A) ([.ref (ad 0), .int (nI a)] : List Value).toArray s 0 0 A) (F0 m 42 ls []) := by
    intro hf H locs hP hD hS
    have e9 : (q_mk wo tg a (L, ba, di, go)) = q_ev wo (q_last 0 (L 1)) 3 (L, ba, di, go) := if_pos hf
    have hlt : q_last 0 (L 1) < 64 := q_lt hok (q_fst_ne hf)
    have hps := List.length_pos_iff.mpr (q_fst_ne hf)
    refine lv_iconst (v := (nI 1)) hx hb dX2_makeRoom_42 (by decide) ?_
    refine lv_goto (tgt := 47) hx hb dX2_makeRoom_43 (by decide) ?_
    refine lv_istore_n (lv' := [(2, .int (nI 1)), (0, .ref (ad 0)), (1, .int (nI a))]) hx hb dX2_makeRoom_47 rfl hl (by decide) rfl (fun ls hl => ?_)
    refine lv_iload_n hx hb dX2_makeRoom_48 rfl (lv_at hl 0 rfl) ?_
    refine q_if_eq (tgt := 56) hx hb (by decide) dX2_makeRoom_49 (by decide) (fun q => absurd q (by decide)) (fun _ => ?_)
    refine lv_iconst (v := (nI 1)) hx hb dX2_makeRoom_52 (by decide) ?_
    refine lv_goto (tgt := 57) hx hb dX2_makeRoom_53 (by decide) ?_
    refine lv_istore_n (lv' := [(3, .int (nI 1)), (2, .int (nI 1)), (0, .ref (ad 0)), (1, .int (nI a))]) hx hb dX2_makeRoom_57 rfl hl (by decide) rfl (fun ls hl => ?_)
    refine lv_aload_n hx hb dX2_makeRoom_58 rfl (lv_at hl 2 rfl) ?_
    refine va_get (D := (dC, dI)) (ci := 1) (v := .ref (ad 2)) (C := RX2) (T := TX2) (N := 10) hx hb hts in_X2 hown hK hP 0 rfl rfl 2 (by decide) (hts _ q163) (fun _ h9 => h9) rfl dX2_makeRoom_59 ?_
    refine lv_iload_n hx hb dX2_makeRoom_62 rfl (lv_at hl 0 rfl) ?_
    refine q_iald (v := (nI ((L 1).length))) hx hb hK hP 2 0 rfl rfl (by decide) (by decide) (hR.1 1 (by decide) (by decide)) dX2_makeRoom_63 ?_
    refine q_if_le (tgt := 89) hx hb (by omega) dX2_makeRoom_64 (by decide) (fun hz => ?_) (fun hz => ?_)
    · exact absurd hz (by omega)
    · refine lv_aload_n hx hb dX2_makeRoom_67 rfl (lv_at hl 2 rfl) ?_
      refine lv_iload_n hx hb dX2_makeRoom_68 rfl (lv_at hl 0 rfl) ?_
      have hFc := va_free (wc := (mw ad ci cz li ma wo di ba cp (nI tg) hi mi go)) hD hS hA [0, 1, 2, 3, 4, 5] rfl
      refine va_calli (va_runV (As := [.int (nI 1)]) (rest := []) ⟨hx, hb, hml, hown, hts⟩ (metX2_old l dC dI ci cz ad H.size li ma wo di ba cp (nI tg) hi mi go hok hR (by decide) (by decide) (q_fst_ne hf)) (cwV 1 hts (lw_V q224 q226 qs11 q17 q227) rfl rfl rfl (by decide +kernel) ⟨Nat.le_of_ble_eq_true rfl, Nat.le_of_ble_eq_true rfl⟩) ⟨q_blind, va_recv hK hP (ci := 1) (q0 := 0) rfl rfl, fun U hU hW => q_ent hP hK hD hU hW⟩ rfl rfl hl.1 rfl (lv_room (Nat.le_of_ble_eq_true rfl)) dX2_makeRoom_69 ⟨Nat.le_of_ble_eq_true rfl, Nat.le_of_ble_eq_true rfl⟩) hS (fun q _ h => hFc q h) hFc (fun r1 u t H1 locs ht hvm hw hB hzq hkq hS => ?_)
      obtain ⟨hP1, hK1, hD1⟩ := hB
      rw [ht] at hP1
      have hP : va_P (dC, dI) vwCl (mw ad ci cz li ma wo di ba cp (nI tg) hi mi go) H1 := hP1
      have hD : va_D A (mw ad ci cz li ma wo di ba cp (nI tg) hi mi go) := hD1.weaken (fun k q _ h => hFc q.1 h)
      generalize H1 = H at hP hS ⊢
      have hw : r1 = nI (q_last 0 (L 1)) := hw
      subst hw
      refine lv_istore (lv' := [(4, .int (nI (q_last 0 (L 1)))), (3, .int (nI 1)), (2, .int (nI 1)), (0, .ref (ad 0)), (1, .int (nI a))]) hx hb dX2_makeRoom_72 hl (by decide) rfl (fun ls hl => ?_)
      refine lv_aload_n hx hb dX2_makeRoom_74 rfl (lv_at hl 3 rfl) ?_
      refine lv_iload hx hb dX2_makeRoom_75 (lv_at hl 0 rfl) ?_
      have hFc := va_free (wc := (mw ad ci cz li ma wo di ba cp (nI tg) hi mi go)) hD hS hA [0, 1, 2, 3, 4, 5] rfl
      refine va_callv (va_runV (As := [.int (nI (q_last 0 (L 1)))]) (rest := []) ⟨hx, hb, hml, hown, hts⟩ (metX2_go l dC dI ci cz ad H.size li ma wo di ba cp (nI tg) hi mi go hlt) (cwV 1 hts (lw_V q232 q234 qs13 q17 q235) rfl rfl rfl (by decide +kernel) ⟨Nat.le_of_ble_eq_true rfl, Nat.le_of_ble_eq_true rfl⟩) ⟨q_blind, va_recv hK hP (ci := 1) (q0 := 0) rfl rfl, fun U hU hW => q_ent hP hK hD hU hW⟩ rfl rfl hl.1 rfl (lv_room (Nat.le_of_ble_eq_true rfl)) dX2_makeRoom_77 ⟨Nat.le_of_ble_eq_true rfl, Nat.le_of_ble_eq_true rfl⟩) hS (fun q _ h => hFc q h) hFc (fun  u t H1 locs ht hvm hw hB hzq hkq hS => ?_)
      obtain ⟨hP1, hK1, hD1⟩ := hB
      rw [ht] at hP1
      have hP : va_P (dC, dI) vwCl (mw ad ci cz li ma wo (upd di (q_last 0 (L 1)) (nI 0)) (q_gb wo ba di (q_last 0 (L 1))) cp (nI tg) hi mi (go + nI 1)) H1 := hP1
      have hD : va_D A (mw ad ci cz li ma wo (upd di (q_last 0 (L 1)) (nI 0)) (q_gb wo ba di (q_last 0 (L 1))) cp (nI tg) hi mi (go + nI 1)) := hD1.weaken (fun k q _ h => hFc q.1 h)
      generalize H1 = H at hP hS ⊢
      refine lv_aload_n hx hb dX2_makeRoom_80 rfl (lv_at hl 3 rfl) ?_
      refine lv_iload hx hb dX2_makeRoom_81 (lv_at hl 0 rfl) ?_
      refine lv_iload_n hx hb dX2_makeRoom_83 rfl (lv_at hl 1 rfl) ?_
      refine lv_iconst (v := (nI 2)) hx hb dX2_makeRoom_84 (by decide) ?_
      refine q_iadd hx hb dX2_makeRoom_85 ?_
      refine q_top (y := (nI 3)) rfl ?_
      have hFc := va_free (wc := (mw ad ci cz li ma wo (upd di (q_last 0 (L 1)) (nI 0)) (q_gb wo ba di (q_last 0 (L 1))) cp (nI tg) hi mi (go + nI 1))) hD hS hA [0, 1, 2, 3, 4, 5] rfl
      refine va_callv (va_runV (As := [.int (nI (q_last 0 (L 1))), .int (nI 3)]) (rest := []) ⟨hx, hb, hml, hown, hts⟩ (metX2_come l dC dI ci cz ad H.size li ma wo (upd di (q_last 0 (L 1)) (nI 0)) (q_gb wo ba di (q_last 0 (L 1))) cp (nI tg) hi mi (go + nI 1) hok hR hlt (show 1 ≤ 3 by decide) (show 3 ≤ 4 by decide)) (cwV 2 hts (lw_V q212 q214 qs8 q17 q215) rfl rfl rfl (by decide +kernel) ⟨Nat.le_of_ble_eq_true rfl, Nat.le_of_ble_eq_true rfl⟩) ⟨q_blind, va_recv hK hP (ci := 1) (q0 := 0) rfl rfl, fun U hU hW => q_ent hP hK hD hU hW⟩ rfl rfl hl.1 rfl (lv_room (Nat.le_of_ble_eq_true rfl)) dX2_makeRoom_86 ⟨Nat.le_of_ble_eq_true rfl, Nat.le_of_ble_eq_true rfl⟩) hS (fun q _ h => hFc q h) hFc (fun  u t H1 locs ht hvm hw hB hzq hkq hS => ?_)
      obtain ⟨li1, ma1⟩ := u
      obtain ⟨hP1, hK1, hD1⟩ := hB
      rw [ht] at hP1
      have hP : va_P (dC, dI) vwCl (mw ad ci cz li1 ma1 wo (upd di (q_last 0 (L 1)) (nI 0)) (q_gb wo ba di (q_last 0 (L 1))) cp (nI tg) hi mi (go + nI 1)) H1 := hP1
      have hD : va_D A (mw ad ci cz li1 ma1 wo (upd di (q_last 0 (L 1)) (nI 0)) (q_gb wo ba di (q_last 0 (L 1))) cp (nI tg) hi mi (go + nI 1)) := hD1.weaken (fun k q _ h => hFc q.1 h)
      have hw : m_rep (q_mv L (q_last 0 (L 1)) 3) li1 ma1 := hw
      generalize H1 = H at hP hS ⊢
      exact W.vret hx hb hr (fun t ht hW => ⟨⟨(li1, ma1), rfl, (by rw [e9]; exact hw), by rw [ht]; exact (by rw [e9]; exact hP), va_K.moved hW.alike hK, (by rw [e9]; exact hD)⟩, hS.F ht⟩) hS.2.2 dX2_makeRoom_89
  have KF : ¬ q_fst L tg a → ∀ (H : Heap) (locs : List Loc), va_P (dC, dI) vwCl (mw ad ci cz li ma wo di ba cp (nI tg) hi mi go) H → va_D A (mw ad ci cz li ma wo di ba cp (nI tg) hi mi go) → va_S A s.heap H locs → W p l e (headSpec wsX2_makeRoom ({ frames := 3, cells := 0, slots := 0, locals := 70 })).room s m ([.ref (ad 0), .int (nI a)] : List Value).toArray below meth c H locs 0 0 (MQ below (va_Qv (fun u : m_U => m_rep (q_mk wo tg a (L, ba, di, go)).1 u.1 u.2) (mB dC dI ci cz A ad wo ((q_mk wo tg a (L, ba, di, go)).2.2.1) ((q_mk wo tg a (L, ba, di, go)).2.1) cp (nI tg) hi mi ((q_mk wo tg a (L, ba, di, go)).2.2.2)) A) ([.ref (ad 0), .int (nI a)] : List Value).toArray s 0 0 A) (F0 m 46 ls []) := by
    intro hf H locs hP hD hS
    have e9 : (q_mk wo tg a (L, ba, di, go)) = q_ev wo (q_last 0 (L 2)) 4 (L, ba, di, go) := if_neg hf
    have hlt : q_last 0 (L 2) < 64 := q_lt hok (hne hf)
    have hps := List.length_pos_iff.mpr (hne hf)
    refine lv_iconst (v := (nI 0)) hx hb dX2_makeRoom_46 (by decide) ?_
    refine lv_istore_n (lv' := [(2, .int (nI 0)), (0, .ref (ad 0)), (1, .int (nI a))]) hx hb dX2_makeRoom_47 rfl hl (by decide) rfl (fun ls hl => ?_)
    refine lv_iload_n hx hb dX2_makeRoom_48 rfl (lv_at hl 0 rfl) ?_
    refine q_if_eq (tgt := 56) hx hb (by decide) dX2_makeRoom_49 (by decide) (fun _ => ?_) (fun q => absurd q (by decide))
    refine lv_iconst (v := (nI 2)) hx hb dX2_makeRoom_56 (by decide) ?_
    refine lv_istore_n (lv' := [(3, .int (nI 2)), (2, .int (nI 0)), (0, .ref (ad 0)), (1, .int (nI a))]) hx hb dX2_makeRoom_57 rfl hl (by decide) rfl (fun ls hl => ?_)
    refine lv_aload_n hx hb dX2_makeRoom_58 rfl (lv_at hl 2 rfl) ?_
    refine va_get (D := (dC, dI)) (ci := 1) (v := .ref (ad 2)) (C := RX2) (T := TX2) (N := 10) hx hb hts in_X2 hown hK hP 0 rfl rfl 2 (by decide) (hts _ q163) (fun _ h9 => h9) rfl dX2_makeRoom_59 ?_
    refine lv_iload_n hx hb dX2_makeRoom_62 rfl (lv_at hl 0 rfl) ?_
    refine q_iald (v := (nI ((L 2).length))) hx hb hK hP 2 0 rfl rfl (by decide) (by decide) (hR.1 2 (by decide) (by decide)) dX2_makeRoom_63 ?_
    refine q_if_le (tgt := 89) hx hb (by omega) dX2_makeRoom_64 (by decide) (fun hz => ?_) (fun hz => ?_)
    · exact absurd hz (by omega)
    · refine lv_aload_n hx hb dX2_makeRoom_67 rfl (lv_at hl 2 rfl) ?_
      refine lv_iload_n hx hb dX2_makeRoom_68 rfl (lv_at hl 0 rfl) ?_
      have hFc := va_free (wc := (mw ad ci cz li ma wo di ba cp (nI tg) hi mi go)) hD hS hA [0, 1, 2, 3, 4, 5] rfl
      refine va_calli (va_runV (As := [.int (nI 2)]) (rest := []) ⟨hx, hb, hml, hown, hts⟩ (metX2_old l dC dI ci cz ad H.size li ma wo di ba cp (nI tg) hi mi go hok hR (by decide) (by decide) (hne hf)) (cwV 1 hts (lw_V q224 q226 qs11 q17 q227) rfl rfl rfl (by decide +kernel) ⟨Nat.le_of_ble_eq_true rfl, Nat.le_of_ble_eq_true rfl⟩) ⟨q_blind, va_recv hK hP (ci := 1) (q0 := 0) rfl rfl, fun U hU hW => q_ent hP hK hD hU hW⟩ rfl rfl hl.1 rfl (lv_room (Nat.le_of_ble_eq_true rfl)) dX2_makeRoom_69 ⟨Nat.le_of_ble_eq_true rfl, Nat.le_of_ble_eq_true rfl⟩) hS (fun q _ h => hFc q h) hFc (fun r1 u t H1 locs ht hvm hw hB hzq hkq hS => ?_)
      obtain ⟨hP1, hK1, hD1⟩ := hB
      rw [ht] at hP1
      have hP : va_P (dC, dI) vwCl (mw ad ci cz li ma wo di ba cp (nI tg) hi mi go) H1 := hP1
      have hD : va_D A (mw ad ci cz li ma wo di ba cp (nI tg) hi mi go) := hD1.weaken (fun k q _ h => hFc q.1 h)
      generalize H1 = H at hP hS ⊢
      have hw : r1 = nI (q_last 0 (L 2)) := hw
      subst hw
      refine lv_istore (lv' := [(4, .int (nI (q_last 0 (L 2)))), (3, .int (nI 2)), (2, .int (nI 0)), (0, .ref (ad 0)), (1, .int (nI a))]) hx hb dX2_makeRoom_72 hl (by decide) rfl (fun ls hl => ?_)
      refine lv_aload_n hx hb dX2_makeRoom_74 rfl (lv_at hl 3 rfl) ?_
      refine lv_iload hx hb dX2_makeRoom_75 (lv_at hl 0 rfl) ?_
      have hFc := va_free (wc := (mw ad ci cz li ma wo di ba cp (nI tg) hi mi go)) hD hS hA [0, 1, 2, 3, 4, 5] rfl
      refine va_callv (va_runV (As := [.int (nI (q_last 0 (L 2)))]) (rest := []) ⟨hx, hb, hml, hown, hts⟩ (metX2_go l dC dI ci cz ad H.size li ma wo di ba cp (nI tg) hi mi go hlt) (cwV 1 hts (lw_V q232 q234 qs13 q17 q235) rfl rfl rfl (by decide +kernel) ⟨Nat.le_of_ble_eq_true rfl, Nat.le_of_ble_eq_true rfl⟩) ⟨q_blind, va_recv hK hP (ci := 1) (q0 := 0) rfl rfl, fun U hU hW => q_ent hP hK hD hU hW⟩ rfl rfl hl.1 rfl (lv_room (Nat.le_of_ble_eq_true rfl)) dX2_makeRoom_77 ⟨Nat.le_of_ble_eq_true rfl, Nat.le_of_ble_eq_true rfl⟩) hS (fun q _ h => hFc q h) hFc (fun  u t H1 locs ht hvm hw hB hzq hkq hS => ?_)
      obtain ⟨hP1, hK1, hD1⟩ := hB
      rw [ht] at hP1
      have hP : va_P (dC, dI) vwCl (mw ad ci cz li ma wo (upd di (q_last 0 (L 2)) (nI 0)) (q_gb wo ba di (q_last 0 (L 2))) cp (nI tg) hi mi (go + nI 1)) H1 := hP1
      have hD : va_D A (mw ad ci cz li ma wo (upd di (q_last 0 (L 2)) (nI 0)) (q_gb wo ba di (q_last 0 (L 2))) cp (nI tg) hi mi (go + nI 1)) := hD1.weaken (fun k q _ h => hFc q.1 h)
      generalize H1 = H at hP hS ⊢
      refine lv_aload_n hx hb dX2_makeRoom_80 rfl (lv_at hl 3 rfl) ?_
      refine lv_iload hx hb dX2_makeRoom_81 (lv_at hl 0 rfl) ?_
      refine lv_iload_n hx hb dX2_makeRoom_83 rfl (lv_at hl 1 rfl) ?_
      refine lv_iconst (v := (nI 2)) hx hb dX2_makeRoom_84 (by decide) ?_
      refine q_iadd hx hb dX2_makeRoom_85 ?_
      refine q_top (y := (nI 4)) rfl ?_
      have hFc := va_free (wc := (mw ad ci cz li ma wo (upd di (q_last 0 (L 2)) (nI 0)) (q_gb wo ba di (q_last 0 (L 2))) cp (nI tg) hi mi (go + nI 1))) hD hS hA [0, 1, 2, 3, 4, 5] rfl
      refine va_callv (va_runV (As := [.int (nI (q_last 0 (L 2))), .int (nI 4)]) (rest := []) ⟨hx, hb, hml, hown, hts⟩ (metX2_come l dC dI ci cz ad H.size li ma wo (upd di (q_last 0 (L 2)) (nI 0)) (q_gb wo ba di (q_last 0 (L 2))) cp (nI tg) hi mi (go + nI 1) hok hR hlt (show 1 ≤ 4 by decide) (show 4 ≤ 4 by decide)) (cwV 2 hts (lw_V q212 q214 qs8 q17 q215) rfl rfl rfl (by decide +kernel) ⟨Nat.le_of_ble_eq_true rfl, Nat.le_of_ble_eq_true rfl⟩) ⟨q_blind, va_recv hK hP (ci := 1) (q0 := 0) rfl rfl, fun U hU hW => q_ent hP hK hD hU hW⟩ rfl rfl hl.1 rfl (lv_room (Nat.le_of_ble_eq_true rfl)) dX2_makeRoom_86 ⟨Nat.le_of_ble_eq_true rfl, Nat.le_of_ble_eq_true rfl⟩) hS (fun q _ h => hFc q h) hFc (fun  u t H1 locs ht hvm hw hB hzq hkq hS => ?_)
      obtain ⟨li1, ma1⟩ := u
      obtain ⟨hP1, hK1, hD1⟩ := hB
      rw [ht] at hP1
      have hP : va_P (dC, dI) vwCl (mw ad ci cz li1 ma1 wo (upd di (q_last 0 (L 2)) (nI 0)) (q_gb wo ba di (q_last 0 (L 2))) cp (nI tg) hi mi (go + nI 1)) H1 := hP1
      have hD : va_D A (mw ad ci cz li1 ma1 wo (upd di (q_last 0 (L 2)) (nI 0)) (q_gb wo ba di (q_last 0 (L 2))) cp (nI tg) hi mi (go + nI 1)) := hD1.weaken (fun k q _ h => hFc q.1 h)
      have hw : m_rep (q_mv L (q_last 0 (L 2)) 4) li1 ma1 := hw
      generalize H1 = H at hP hS ⊢
      exact W.vret hx hb hr (fun t ht hW => ⟨⟨(li1, ma1), rfl, (by rw [e9]; exact hw), by rw [ht]; exact (by rw [e9]; exact hP), va_K.moved hW.alike hK, (by rw [e9]; exact hD)⟩, hS.F ht⟩) hS.2.2 dX2_makeRoom_89
  refine lv_aload_n hx hb dX2_makeRoom_0 rfl (lv_at hl 0 rfl) ?_
  refine va_get (D := (dC, dI)) (ci := 1) (v := .ref (ad 2)) (C := RX2) (T := TX2) (N := 10) hx hb hts in_X2 hown hK hP 0 rfl rfl 2 (by decide) (hts _ q163) (fun _ h9 => h9) rfl dX2_makeRoom_1 ?_
  refine lv_iconst (v := (nI 1)) hx hb dX2_makeRoom_4 (by decide) ?_
  refine q_iald (v := (nI ((L 1).length))) hx hb hK hP 2 0 rfl rfl (by decide) (by decide) (hR.1 1 (by decide) (by decide)) dX2_makeRoom_5 ?_
  refine lv_aload_n hx hb dX2_makeRoom_6 rfl (lv_at hl 0 rfl) ?_
  refine va_get (D := (dC, dI)) (ci := 1) (v := .int (nI tg)) (C := RX2) (T := TX2) (N := 10) hx hb hts in_X2 hown hK hP 0 rfl rfl 6 (by decide) (hts _ q167) (fun _ h9 => h9) rfl dX2_makeRoom_7 ?_
  refine q_icmp_gt (tgt := 42) hx hb (by omega) (by omega) dX2_makeRoom_10 (by decide) (fun hc => ?_) (fun hc => ?_)
  · exact KT (Or.inl hc) _ _ hP hD hS
  · refine lv_aload_n hx hb dX2_makeRoom_13 rfl (lv_at hl 0 rfl) ?_
    refine va_get (D := (dC, dI)) (ci := 1) (v := .ref (ad 2)) (C := RX2) (T := TX2) (N := 10) hx hb hts in_X2 hown hK hP 0 rfl rfl 2 (by decide) (hts _ q163) (fun _ h9 => h9) rfl dX2_makeRoom_14 ?_
    refine lv_iconst (v := (nI 1)) hx hb dX2_makeRoom_17 (by decide) ?_
    refine q_iald (v := (nI ((L 1).length))) hx hb hK hP 2 0 rfl rfl (by decide) (by decide) (hR.1 1 (by decide) (by decide)) dX2_makeRoom_18 ?_
    refine lv_aload_n hx hb dX2_makeRoom_19 rfl (lv_at hl 0 rfl) ?_
    refine va_get (D := (dC, dI)) (ci := 1) (v := .int (nI tg)) (C := RX2) (T := TX2) (N := 10) hx hb hts in_X2 hown hK hP 0 rfl rfl 6 (by decide) (hts _ q167) (fun _ h9 => h9) rfl dX2_makeRoom_20 ?_
    refine q_icmp_ne (tgt := 46) hx hb (by omega) (by omega) dX2_makeRoom_23 (by decide) (fun hc2 => ?_) (fun hc2 => ?_)
    · exact KF (fun q => by rcases q with q | q; omega; exact hc2 q.1) _ _ hP hD hS
    · refine lv_aload_n hx hb dX2_makeRoom_26 rfl (lv_at hl 0 rfl) ?_
      refine va_get (D := (dC, dI)) (ci := 1) (v := .int (nI tg)) (C := RX2) (T := TX2) (N := 10) hx hb hts in_X2 hown hK hP 0 rfl rfl 6 (by decide) (hts _ q167) (fun _ h9 => h9) rfl dX2_makeRoom_27 ?_
      refine q_if_le (tgt := 46) hx hb (by omega) dX2_makeRoom_30 (by decide) (fun hc3 => ?_) (fun hc3 => ?_)
      · exact KF (fun q => by rcases q with q | q <;> omega) _ _ hP hD hS
      · refine lv_aload_n hx hb dX2_makeRoom_33 rfl (lv_at hl 0 rfl) ?_
        refine lv_iload_n hx hb dX2_makeRoom_34 rfl (lv_at hl 1 rfl) ?_
        have hFc := va_free (wc := (mw ad ci cz li ma wo di ba cp (nI tg) hi mi go)) hD hS hA [0, 1, 2, 3, 4, 5] rfl
        refine va_calli (va_runV (As := [.int (nI a)]) (rest := []) ⟨hx, hb, hml, hown, hts⟩ (metX2_whichList l dC dI ci cz ad s.heap.size li ma wo di ba cp (nI tg) hi mi go (v := nI a) hok hR) (cwV 1 hts (lw_V q211 q197 q198 q17 q199) rfl rfl rfl (by decide +kernel) ⟨Nat.le_of_ble_eq_true rfl, Nat.le_of_ble_eq_true rfl⟩) ⟨q_blind, va_recv hK hP (ci := 1) (q0 := 0) rfl rfl, fun U hU hW => q_ent hP hK hD hU hW⟩ rfl rfl hl.1 rfl (lv_room (Nat.le_of_ble_eq_true rfl)) dX2_makeRoom_35 ⟨Nat.le_of_ble_eq_true rfl, Nat.le_of_ble_eq_true rfl⟩) hS (fun q _ h => hFc q h) hFc (fun r1 u t H1 locs ht hvm hw hB hzq hkq hS => ?_)
        obtain ⟨hP1, hK1, hD1⟩ := hB
        rw [ht] at hP1
        have hP : va_P (dC, dI) vwCl (mw ad ci cz li ma wo di ba cp (nI tg) hi mi go) H1 := hP1
        have hD : va_D A (mw ad ci cz li ma wo di ba cp (nI tg) hi mi go) := hD1.weaken (fun k q _ h => hFc q.1 h)
        generalize H1 = H at hP hS ⊢
        have hw : r1 = q_so (q_wlf L) (nI a) := hw
        rw [q_so_in ha] at hw
        have hw : r1 = nI (q_wh L a) := hw
        subst hw
        refine lv_iconst (v := (nI 4)) hx hb dX2_makeRoom_38 (by decide) ?_
        refine q_icmp_ne (tgt := 46) hx hb (by omega) (by omega) dX2_makeRoom_39 (by decide) (fun hc4 => ?_) (fun hc4 => ?_)
        · exact KF (fun q => by rcases q with q | q; omega; exact hc4 q.2.2) _ _ hP hD hS
        · exact KT (Or.inr ⟨hc2, hc3, hc4⟩) _ _ hP hD hS
end
section
/-- comeNew(a) -/
abbrev wsX2_comeNew : List Cond := ws_ yX2_comeNew cX2_comeNew 3 none
set_option maxHeartbeats 4000000 in
set_option maxRecDepth 100000 in
theorem metX2_comeNew (l : Launch) (dC : Nat → ClassId) (dI : Nat → Nat → Nat) (ci cz : ClassId) (ad : Nat → Nat) (sz : Nat) (li ma wo di ba : Nat → Int32) (hi mi go : Int32) {L : Nat → List Nat} {cp tg a : Nat} (hI : q_inv cp L di tg) (hR : m_rep L li ma) (ha : a < 64) (hw0 : q_wh L a = 0) : Met l yX2_comeNew wsX2_comeNew ({ frames := 4, cells := 0, slots := 0, locals := 94 }) (va_Pc [.ref (ad 0), .int (nI a)] (q_Pre dC dI ci cz sz (mw ad ci cz li ma wo di ba (nI cp) (nI tg) hi mi go))) (va_Qv (fun u : m_U => m_rep (q_mv (q_fr wo cp tg a (L, ba, di, go)).1 a 1) u.1 u.2) (mB dC dI ci cz (va_A (mw ad ci cz li ma wo di ba (nI cp) (nI tg) hi mi go) sz) ad wo ((q_fr wo cp tg a (L, ba, di, go)).2.2.1) ((q_fr wo cp tg a (L, ba, di, go)).2.1) (nI cp) (nI tg) hi mi ((q_fr wo cp tg a (L, ba, di, go)).2.2.2)) (va_A (mw ad ci cz li ma wo di ba (nI cp) (nI tg) hi mi go) sz)) 0 0 (va_A (mw ad ci cz li ma wo di ba (nI cp) (nI tg) hi mi go) sz) := by
  refine Met.ofW (cc := cX2_comeNew) (maxL := 3) (ret := none) (by decide) rfl ?_
  intro p e s m args below meth c s₁ B hml hv
  obtain ⟨rfl, hsz, hP, hK, hD0⟩ := hv
  have hx := B.exec
  have hb := B.bytes
  have hr := B.returns
  have hts := atoms_spec (ws := wsX2_comeNew) B.pre
  have hts : ∀ w ∈ lw_all, w.before _ s = true := fun w h => hts w (List.mem_cons_of_mem _ h)
  have hown : s.vm.findClass RX2 = some m.cls := findClass_of_methodNamed B.named
  have hlocks := B.notSynchronized
  subst hsz
  have hD := hD0.self (sz := s.heap.size)
  generalize hAe : va_A (mw ad ci cz li ma wo di ba (nI cp) (nI tg) hi mi go) s.heap.size = A at hD ⊢
  have hA : ∀ q : Nat, s.heap.size ≤ q → A q := fun q h => by rw [← hAe]; exact Or.inr h
  have hS : va_S A s.heap s.heap [] := va_S.rf
  have hP : va_P (dC, dI) vwCl (mw ad ci cz li ma wo di ba (nI cp) (nI tg) hi mi go) s.heap := hP
  have hl := lv_entry ([.ref (ad 0), .int (nI a)]) (n := 3) (Nat.le_of_ble_eq_true rfl)
  rw [lg_entry_eq]
  generalize (lg_sl ([.ref (ad 0), .int (nI a)]) ++ List.replicate (3 - (lg_sl ([.ref (ad 0), .int (nI a)])).length) Slot.unset).toArray = ls at hl ⊢
  have hl : lv_has ls 3 [(0, .ref (ad 0)), (1, .int (nI a))] := hl
  have hok := hI.1.1
  have hcb := hI.2.1
  have h1 := q_L64 hok 1
  have h2 := q_L64 hok 2
  have h3 := q_L64 hok 3
  have h4 := q_L64 hok 4
  have KT : ∀ (li ma : Nat → Int32) (H : Heap) (locs : List Loc) (ls : Array Slot), m_rep (q_fr wo cp tg a (L, ba, di, go)).1 li ma → va_P (dC, dI) vwCl (mw ad ci cz li ma wo ((q_fr wo cp tg a (L, ba, di, go)).2.2.1) ((q_fr wo cp tg a (L, ba, di, go)).2.1) (nI cp) (nI tg) hi mi ((q_fr wo cp tg a (L, ba, di, go)).2.2.2)) H → va_D A (mw ad ci cz li ma wo ((q_fr wo cp tg a (L, ba, di, go)).2.2.1) ((q_fr wo cp tg a (L, ba, di, go)).2.1) (nI cp) (nI tg) hi mi ((q_fr wo cp tg a (L, ba, di, go)).2.2.2)) → va_S A s.heap H locs → lv_has ls 3 [(0, .ref (ad 0)), (1, .int (nI a))] → W p l e (headSpec wsX2_comeNew ({ frames := 4, cells := 0, slots := 0, locals := 94 })).room s m ([.ref (ad 0), .int (nI a)] : List Value).toArray below meth c H locs 0 0 (MQ below (va_Qv (fun u : m_U => m_rep (q_mv (q_fr wo cp tg a (L, ba, di, go)).1 a 1) u.1 u.2) (mB dC dI ci cz A ad wo ((q_fr wo cp tg a (L, ba, di, go)).2.2.1) ((q_fr wo cp tg a (L, ba, di, go)).2.1) (nI cp) (nI tg) hi mi ((q_fr wo cp tg a (L, ba, di, go)).2.2.2)) A) ([.ref (ad 0), .int (nI a)] : List Value).toArray s 0 0 A) (F0 m 131 ls []) := by
    intro li ma H locs ls hR hP hD hS hl
    have hfr := q_fr_ok (wo := wo) (ba := ba) (go := go) hI hw0
    refine lv_aload_n hx hb dX2_comeNew_131 rfl (lv_at hl 0 rfl) ?_
    refine lv_iload_n hx hb dX2_comeNew_132 rfl (lv_at hl 1 rfl) ?_
    refine lv_iconst (v := (nI 1)) hx hb dX2_comeNew_133 (by decide) ?_
    have hFc := va_free (wc := (mw ad ci cz li ma wo ((q_fr wo cp tg a (L, ba, di, go)).2.2.1) ((q_fr wo cp tg a (L, ba, di, go)).2.1) (nI cp) (nI tg) hi mi ((q_fr wo cp tg a (L, ba, di, go)).2.2.2))) hD hS hA [0, 1, 2, 3, 4, 5] rfl
    refine va_callv (va_runV (As := [.int (nI a), .int (nI 1)]) (rest := []) ⟨hx, hb, hml, hown, hts⟩ (metX2_come l dC dI ci cz ad H.size li ma wo ((q_fr wo cp tg a (L, ba, di, go)).2.2.1) ((q_fr wo cp tg a (L, ba, di, go)).2.1) (nI cp) (nI tg) hi mi ((q_fr wo cp tg a (L, ba, di, go)).2.2.2) hfr.1.1 hR ha (show 1 ≤ 1 by decide) (show 1 ≤ 4 by decide)) (cwV 2 hts (lw_V q212 q214 qs8 q17 q215) rfl rfl rfl (by decide +kernel) ⟨Nat.le_of_ble_eq_true rfl, Nat.le_of_ble_eq_true rfl⟩) ⟨q_blind, va_recv hK hP (ci := 1) (q0 := 0) rfl rfl, fun U hU hW => q_ent hP hK hD hU hW⟩ rfl rfl hl.1 rfl (lv_room (Nat.le_of_ble_eq_true rfl)) dX2_comeNew_134 ⟨Nat.le_of_ble_eq_true rfl, Nat.le_of_ble_eq_true rfl⟩) hS (fun q _ h => hFc q h) hFc (fun  u t H1 locs ht hvm hw hB hzq hkq hS => ?_)
    obtain ⟨li1, ma1⟩ := u
    obtain ⟨hP1, hK1, hD1⟩ := hB
    rw [ht] at hP1
    have hP : va_P (dC, dI) vwCl (mw ad ci cz li1 ma1 wo ((q_fr wo cp tg a (L, ba, di, go)).2.2.1) ((q_fr wo cp tg a (L, ba, di, go)).2.1) (nI cp) (nI tg) hi mi ((q_fr wo cp tg a (L, ba, di, go)).2.2.2)) H1 := hP1
    have hD : va_D A (mw ad ci cz li1 ma1 wo ((q_fr wo cp tg a (L, ba, di, go)).2.2.1) ((q_fr wo cp tg a (L, ba, di, go)).2.1) (nI cp) (nI tg) hi mi ((q_fr wo cp tg a (L, ba, di, go)).2.2.2)) := hD1.weaken (fun k q _ h => hFc q.1 h)
    have hw : m_rep (q_mv (q_fr wo cp tg a (L, ba, di, go)).1 a 1) li1 ma1 := hw
    generalize H1 = H at hP hS ⊢
    exact W.vret hx hb hr (fun t ht hW => ⟨⟨(li1, ma1), rfl, hw, by rw [ht]; exact hP, va_K.moved hW.alike hK, hD⟩, hS.F ht⟩) hS.2.2 dX2_comeNew_137
  refine lv_aload_n hx hb dX2_comeNew_0 rfl (lv_at hl 0 rfl) ?_
  refine va_get (D := (dC, dI)) (ci := 1) (v := .ref (ad 2)) (C := RX2) (T := TX2) (N := 10) hx hb hts in_X2 hown hK hP 0 rfl rfl 2 (by decide) (hts _ q163) (fun _ h9 => h9) rfl dX2_comeNew_1 ?_
  refine lv_iconst (v := (nI 1)) hx hb dX2_comeNew_4 (by decide) ?_
  refine q_iald (v := (nI ((L 1).length))) hx hb hK hP 2 0 rfl rfl (by decide) (by decide) (hR.1 1 (by decide) (by decide)) dX2_comeNew_5 ?_
  refine lv_aload_n hx hb dX2_comeNew_6 rfl (lv_at hl 0 rfl) ?_
  refine va_get (D := (dC, dI)) (ci := 1) (v := .ref (ad 2)) (C := RX2) (T := TX2) (N := 10) hx hb hts in_X2 hown hK hP 0 rfl rfl 2 (by decide) (hts _ q163) (fun _ h9 => h9) rfl dX2_comeNew_7 ?_
  refine lv_iconst (v := (nI 3)) hx hb dX2_comeNew_10 (by decide) ?_
  refine q_iald (v := (nI ((L 3).length))) hx hb hK hP 2 0 rfl rfl (by decide) (by decide) (hR.1 3 (by decide) (by decide)) dX2_comeNew_11 ?_
  refine q_iadd hx hb dX2_comeNew_12 ?_
  refine lv_aload_n hx hb dX2_comeNew_13 rfl (lv_at hl 0 rfl) ?_
  refine va_get (D := (dC, dI)) (ci := 1) (v := .int (nI cp)) (C := RX2) (T := TX2) (N := 10) hx hb hts in_X2 hown hK hP 0 rfl rfl 0 (by decide) (hts _ q161) (fun _ h9 => h9) rfl dX2_comeNew_14 ?_
  refine q_icmp_ne (tgt := 71) hx hb (by omega) (by omega) dX2_comeNew_17 (by decide) (fun g1 => ?_) (fun g1 => ?_)
  · refine lv_aload_n hx hb dX2_comeNew_71 rfl (lv_at hl 0 rfl) ?_
    refine va_get (D := (dC, dI)) (ci := 1) (v := .ref (ad 2)) (C := RX2) (T := TX2) (N := 10) hx hb hts in_X2 hown hK hP 0 rfl rfl 2 (by decide) (hts _ q163) (fun _ h9 => h9) rfl dX2_comeNew_72 ?_
    refine lv_iconst (v := (nI 1)) hx hb dX2_comeNew_75 (by decide) ?_
    refine q_iald (v := (nI ((L 1).length))) hx hb hK hP 2 0 rfl rfl (by decide) (by decide) (hR.1 1 (by decide) (by decide)) dX2_comeNew_76 ?_
    refine lv_aload_n hx hb dX2_comeNew_77 rfl (lv_at hl 0 rfl) ?_
    refine va_get (D := (dC, dI)) (ci := 1) (v := .ref (ad 2)) (C := RX2) (T := TX2) (N := 10) hx hb hts in_X2 hown hK hP 0 rfl rfl 2 (by decide) (hts _ q163) (fun _ h9 => h9) rfl dX2_comeNew_78 ?_
    refine lv_iconst (v := (nI 2)) hx hb dX2_comeNew_81 (by decide) ?_
    refine q_iald (v := (nI ((L 2).length))) hx hb hK hP 2 0 rfl rfl (by decide) (by decide) (hR.1 2 (by decide) (by decide)) dX2_comeNew_82 ?_
    refine q_iadd hx hb dX2_comeNew_83 ?_
    refine lv_aload_n hx hb dX2_comeNew_84 rfl (lv_at hl 0 rfl) ?_
    refine va_get (D := (dC, dI)) (ci := 1) (v := .ref (ad 2)) (C := RX2) (T := TX2) (N := 10) hx hb hts in_X2 hown hK hP 0 rfl rfl 2 (by decide) (hts _ q163) (fun _ h9 => h9) rfl dX2_comeNew_85 ?_
    refine lv_iconst (v := (nI 3)) hx hb dX2_comeNew_88 (by decide) ?_
    refine q_iald (v := (nI ((L 3).length))) hx hb hK hP 2 0 rfl rfl (by decide) (by decide) (hR.1 3 (by decide) (by decide)) dX2_comeNew_89 ?_
    refine q_iadd hx hb dX2_comeNew_90 ?_
    refine lv_aload_n hx hb dX2_comeNew_91 rfl (lv_at hl 0 rfl) ?_
    refine va_get (D := (dC, dI)) (ci := 1) (v := .ref (ad 2)) (C := RX2) (T := TX2) (N := 10) hx hb hts in_X2 hown hK hP 0 rfl rfl 2 (by decide) (hts _ q163) (fun _ h9 => h9) rfl dX2_comeNew_92 ?_
    refine lv_iconst (v := (nI 4)) hx hb dX2_comeNew_95 (by decide) ?_
    refine q_iald (v := (nI ((L 4).length))) hx hb hK hP 2 0 rfl rfl (by decide) (by decide) (hR.1 4 (by decide) (by decide)) dX2_comeNew_96 ?_
    refine q_iadd hx hb dX2_comeNew_97 ?_
    refine lv_istore_n (lv' := [(2, .int (nI (((((L 1).length) + ((L 2).length)) + ((L 3).length)) + ((L 4).length)))), (0, .ref (ad 0)), (1, .int (nI a))]) hx hb dX2_comeNew_98 rfl hl (by decide) rfl (fun ls hl => ?_)
    refine lv_iload_n hx hb dX2_comeNew_99 rfl (lv_at hl 0 rfl) ?_
    refine lv_aload_n hx hb dX2_comeNew_100 rfl (lv_at hl 1 rfl) ?_
    refine va_get (D := (dC, dI)) (ci := 1) (v := .int (nI cp)) (C := RX2) (T := TX2) (N := 10) hx hb hts in_X2 hown hK hP 0 rfl rfl 0 (by decide) (hts _ q161) (fun _ h9 => h9) rfl dX2_comeNew_101 ?_
    refine q_icmp_lt (tgt := 131) hx hb (by omega) (by omega) dX2_comeNew_104 (by decide) (fun g3 => ?_) (fun g3 => ?_)
    · have e9 : (q_fr wo cp tg a (L, ba, di, go)) = (L, ba, di, go) := by unfold q_fr; rw [if_neg g1, if_neg (show ¬ cp ≤ (L 1).length + (L 2).length + (L 3).length + (L 4).length by omega)]
      exact KT li ma _ _ ls (by rw [e9]; exact hR) (by rw [e9]; exact hP) (by rw [e9]; exact hD) hS (lv_sub hl [1, 2] rfl)
    · refine lv_iload_n hx hb dX2_comeNew_107 rfl (lv_at hl 0 rfl) ?_
      refine lv_iconst (v := (nI 2)) hx hb dX2_comeNew_108 (by decide) ?_
      refine lv_aload_n hx hb dX2_comeNew_109 rfl (lv_at hl 1 rfl) ?_
      refine va_get (D := (dC, dI)) (ci := 1) (v := .int (nI cp)) (C := RX2) (T := TX2) (N := 10) hx hb hts in_X2 hown hK hP 0 rfl rfl 0 (by decide) (hts _ q161) (fun _ h9 => h9) rfl dX2_comeNew_110 ?_
      refine q_imul hx hb dX2_comeNew_113 ?_
      refine q_icmp_ne (tgt := 126) hx hb (by omega) (by omega) dX2_comeNew_114 (by decide) (fun g4 => ?_) (fun g4 => ?_)
      · have e9 : (q_fr wo cp tg a (L, ba, di, go)) = q_mk wo tg a (L, ba, di, go) := by unfold q_fr; rw [if_neg g1, if_pos g3, if_neg g4]
        refine lv_aload_n hx hb dX2_comeNew_126 rfl (lv_at hl 1 rfl) ?_
        refine lv_iload_n hx hb dX2_comeNew_127 rfl (lv_at hl 2 rfl) ?_
        have hFc := va_free (wc := (mw ad ci cz li ma wo di ba (nI cp) (nI tg) hi mi go)) hD hS hA [0, 1, 2, 3, 4, 5] rfl
        refine va_callv (va_runV (As := [.int (nI a)]) (rest := []) ⟨hx, hb, hml, hown, hts⟩ (metX2_makeRoom l dC dI ci cz ad s.heap.size li ma wo di ba (nI cp) hi mi go (tg := tg) (a := a) hok hR ha (show tg ≤ 24 by omega) (fun _ => q_frD hI g1 g3)) (cwV 1 hts (lw_V q228 q230 qs12 q17 q231) rfl rfl rfl (by decide +kernel) ⟨Nat.le_of_ble_eq_true rfl, Nat.le_of_ble_eq_true rfl⟩) ⟨q_blind, va_recv hK hP (ci := 1) (q0 := 0) rfl rfl, fun U hU hW => q_ent hP hK hD hU hW⟩ rfl rfl hl.1 rfl (lv_room (Nat.le_of_ble_eq_true rfl)) dX2_comeNew_128 ⟨Nat.le_of_ble_eq_true rfl, Nat.le_of_ble_eq_true rfl⟩) hS (fun q _ h => hFc q h) hFc (fun  u t H1 locs ht hvm hw2 hB hzq hkq hS => ?_)
        obtain ⟨li2, ma2⟩ := u
        obtain ⟨hP1, hK1, hD1⟩ := hB
        rw [ht] at hP1
        have hP : va_P (dC, dI) vwCl (mw ad ci cz li2 ma2 wo ((q_mk wo tg a (L, ba, di, go)).2.2.1) ((q_mk wo tg a (L, ba, di, go)).2.1) (nI cp) (nI tg) hi mi ((q_mk wo tg a (L, ba, di, go)).2.2.2)) H1 := hP1
        have hD : va_D A (mw ad ci cz li2 ma2 wo ((q_mk wo tg a (L, ba, di, go)).2.2.1) ((q_mk wo tg a (L, ba, di, go)).2.1) (nI cp) (nI tg) hi mi ((q_mk wo tg a (L, ba, di, go)).2.2.2)) := hD1.weaken (fun k q _ h => hFc q.1 h)
        have hw2 : m_rep (q_mk wo tg a (L, ba, di, go)).1 li2 ma2 := hw2
        generalize H1 = H at hP hS ⊢
        exact KT li2 ma2 _ _ ls (by rw [e9]; exact hw2) (by rw [e9]; exact hP) (by rw [e9]; exact hD) hS (lv_sub hl [1, 2] rfl)
      · obtain ⟨hne9, h64, hok9, h29⟩ := q_frC hI g1 g4
        have e9 : (q_fr wo cp tg a (L, ba, di, go)) = q_mk wo tg a (q_mv L (q_last 0 (L 4)) 0, ba, di, go) := by unfold q_fr; rw [if_neg g1, if_pos g3, if_pos g4]; rfl
        refine lv_aload_n hx hb dX2_comeNew_117 rfl (lv_at hl 1 rfl) ?_
        refine lv_aload_n hx hb dX2_comeNew_118 rfl (lv_at hl 1 rfl) ?_
        refine lv_iconst (v := (nI 4)) hx hb dX2_comeNew_119 (by decide) ?_
        have hFc := va_free (wc := (mw ad ci cz li ma wo di ba (nI cp) (nI tg) hi mi go)) hD hS hA [0, 1, 2, 3, 4, 5] rfl
        refine va_calli (va_runV (As := [.int (nI 4)]) (rest := [.ref (ad 0)]) ⟨hx, hb, hml, hown, hts⟩ (metX2_old l dC dI ci cz ad s.heap.size li ma wo di ba (nI cp) (nI tg) hi mi go hok hR (by decide) (by decide) hne9) (cwV 1 hts (lw_V q224 q226 qs11 q17 q227) rfl rfl rfl (by decide +kernel) ⟨Nat.le_of_ble_eq_true rfl, Nat.le_of_ble_eq_true rfl⟩) ⟨q_blind, va_recv hK hP (ci := 1) (q0 := 0) rfl rfl, fun U hU hW => q_ent hP hK hD hU hW⟩ rfl rfl hl.1 rfl (lv_room (Nat.le_of_ble_eq_true rfl)) dX2_comeNew_120 ⟨Nat.le_of_ble_eq_true rfl, Nat.le_of_ble_eq_true rfl⟩) hS (fun q _ h => hFc q h) hFc (fun r1 u t H1 locs ht hvm hw hB hzq hkq hS => ?_)
        obtain ⟨hP1, hK1, hD1⟩ := hB
        rw [ht] at hP1
        have hP : va_P (dC, dI) vwCl (mw ad ci cz li ma wo di ba (nI cp) (nI tg) hi mi go) H1 := hP1
        have hD : va_D A (mw ad ci cz li ma wo di ba (nI cp) (nI tg) hi mi go) := hD1.weaken (fun k q _ h => hFc q.1 h)
        generalize H1 = H at hP hS ⊢
        have hw : r1 = nI (q_last 0 (L 4)) := hw
        subst hw
        have hFc := va_free (wc := (mw ad ci cz li ma wo di ba (nI cp) (nI tg) hi mi go)) hD hS hA [0, 1, 2, 3, 4, 5] rfl
        refine va_callv (va_runV (As := [.int (nI (q_last 0 (L 4)))]) (rest := []) ⟨hx, hb, hml, hown, hts⟩ (metX2_leave l dC dI ci cz ad H.size li ma wo di ba (nI cp) (nI tg) hi mi go (a := q_last 0 (L 4)) hok hR h64) (cwV 1 hts (lw_V q216 q218 qs9 q17 q219) rfl rfl rfl (by decide +kernel) ⟨Nat.le_of_ble_eq_true rfl, Nat.le_of_ble_eq_true rfl⟩) ⟨q_blind, va_recv hK hP (ci := 1) (q0 := 0) rfl rfl, fun U hU hW => q_ent hP hK hD hU hW⟩ rfl rfl hl.1 rfl (lv_room (Nat.le_of_ble_eq_true rfl)) dX2_comeNew_123 ⟨Nat.le_of_ble_eq_true rfl, Nat.le_of_ble_eq_true rfl⟩) hS (fun q _ h => hFc q h) hFc (fun  u t H1 locs ht hvm hw hB hzq hkq hS => ?_)
        obtain ⟨li1, ma1⟩ := u
        obtain ⟨hP1, hK1, hD1⟩ := hB
        rw [ht] at hP1
        have hP : va_P (dC, dI) vwCl (mw ad ci cz li1 ma1 wo di ba (nI cp) (nI tg) hi mi go) H1 := hP1
        have hD : va_D A (mw ad ci cz li1 ma1 wo di ba (nI cp) (nI tg) hi mi go) := hD1.weaken (fun k q _ h => hFc q.1 h)
        generalize H1 = H at hP hS ⊢
        rw [← q_mv_0] at hw
        have hw : m_rep (q_mv L (q_last 0 (L 4)) 0) li1 ma1 := hw
        refine lv_aload_n hx hb dX2_comeNew_126 rfl (lv_at hl 1 rfl) ?_
        refine lv_iload_n hx hb dX2_comeNew_127 rfl (lv_at hl 2 rfl) ?_
        have hFc := va_free (wc := (mw ad ci cz li1 ma1 wo di ba (nI cp) (nI tg) hi mi go)) hD hS hA [0, 1, 2, 3, 4, 5] rfl
        refine va_callv (va_runV (As := [.int (nI a)]) (rest := []) ⟨hx, hb, hml, hown, hts⟩ (metX2_makeRoom l dC dI ci cz ad H.size li1 ma1 wo di ba (nI cp) hi mi go (tg := tg) (a := a) hok9 hw ha (show tg ≤ 24 by omega) (fun _ => h29)) (cwV 1 hts (lw_V q228 q230 qs12 q17 q231) rfl rfl rfl (by decide +kernel) ⟨Nat.le_of_ble_eq_true rfl, Nat.le_of_ble_eq_true rfl⟩) ⟨q_blind, va_recv hK hP (ci := 1) (q0 := 0) rfl rfl, fun U hU hW => q_ent hP hK hD hU hW⟩ rfl rfl hl.1 rfl (lv_room (Nat.le_of_ble_eq_true rfl)) dX2_comeNew_128 ⟨Nat.le_of_ble_eq_true rfl, Nat.le_of_ble_eq_true rfl⟩) hS (fun q _ h => hFc q h) hFc (fun  u t H1 locs ht hvm hw2 hB hzq hkq hS => ?_)
        obtain ⟨li2, ma2⟩ := u
        obtain ⟨hP1, hK1, hD1⟩ := hB
        rw [ht] at hP1
        have hP : va_P (dC, dI) vwCl (mw ad ci cz li2 ma2 wo ((q_mk wo tg a (q_mv L (q_last 0 (L 4)) 0, ba, di, go)).2.2.1) ((q_mk wo tg a (q_mv L (q_last 0 (L 4)) 0, ba, di, go)).2.1) (nI cp) (nI tg) hi mi ((q_mk wo tg a (q_mv L (q_last 0 (L 4)) 0, ba, di, go)).2.2.2)) H1 := hP1
        have hD : va_D A (mw ad ci cz li2 ma2 wo ((q_mk wo tg a (q_mv L (q_last 0 (L 4)) 0, ba, di, go)).2.2.1) ((q_mk wo tg a (q_mv L (q_last 0 (L 4)) 0, ba, di, go)).2.1) (nI cp) (nI tg) hi mi ((q_mk wo tg a (q_mv L (q_last 0 (L 4)) 0, ba, di, go)).2.2.2)) := hD1.weaken (fun k q _ h => hFc q.1 h)
        have hw2 : m_rep (q_mk wo tg a (q_mv L (q_last 0 (L 4)) 0, ba, di, go)).1 li2 ma2 := hw2
        generalize H1 = H at hP hS ⊢
        exact KT li2 ma2 _ _ ls (by rw [e9]; exact hw2) (by rw [e9]; exact hP) (by rw [e9]; exact hD) hS (lv_sub hl [1, 2] rfl)
  · refine lv_aload_n hx hb dX2_comeNew_20 rfl (lv_at hl 0 rfl) ?_
    refine va_get (D := (dC, dI)) (ci := 1) (v := .ref (ad 2)) (C := RX2) (T := TX2) (N := 10) hx hb hts in_X2 hown hK hP 0 rfl rfl 2 (by decide) (hts _ q163) (fun _ h9 => h9) rfl dX2_comeNew_21 ?_
    refine lv_iconst (v := (nI 1)) hx hb dX2_comeNew_24 (by decide) ?_
    refine q_iald (v := (nI ((L 1).length))) hx hb hK hP 2 0 rfl rfl (by decide) (by decide) (hR.1 1 (by decide) (by decide)) dX2_comeNew_25 ?_
    refine lv_aload_n hx hb dX2_comeNew_26 rfl (lv_at hl 0 rfl) ?_
    refine va_get (D := (dC, dI)) (ci := 1) (v := .int (nI cp)) (C := RX2) (T := TX2) (N := 10) hx hb hts in_X2 hown hK hP 0 rfl rfl 0 (by decide) (hts _ q161) (fun _ h9 => h9) rfl dX2_comeNew_27 ?_
    refine q_icmp_ge (tgt := 50) hx hb (by omega) (by omega) dX2_comeNew_30 (by decide) (fun g2 => ?_) (fun g2 => ?_)
    · have g2b : ¬ (L 1).length < cp := by omega
      obtain ⟨hne9, h64⟩ := q_frB hI g1 g2b
      have e9 : (q_fr wo cp tg a (L, ba, di, go)) = q_ev wo (q_last 0 (L 1)) 0 (L, ba, di, go) := by unfold q_fr; rw [if_pos g1, if_neg g2b]
      refine lv_aload_n hx hb dX2_comeNew_50 rfl (lv_at hl 0 rfl) ?_
      refine lv_aload_n hx hb dX2_comeNew_51 rfl (lv_at hl 0 rfl) ?_
      refine lv_iconst (v := (nI 1)) hx hb dX2_comeNew_52 (by decide) ?_
      have hFc := va_free (wc := (mw ad ci cz li ma wo di ba (nI cp) (nI tg) hi mi go)) hD hS hA [0, 1, 2, 3, 4, 5] rfl
      refine va_calli (va_runV (As := [.int (nI 1)]) (rest := [.ref (ad 0)]) ⟨hx, hb, hml, hown, hts⟩ (metX2_old l dC dI ci cz ad s.heap.size li ma wo di ba (nI cp) (nI tg) hi mi go hok hR (by decide) (by decide) hne9) (cwV 1 hts (lw_V q224 q226 qs11 q17 q227) rfl rfl rfl (by decide +kernel) ⟨Nat.le_of_ble_eq_true rfl, Nat.le_of_ble_eq_true rfl⟩) ⟨q_blind, va_recv hK hP (ci := 1) (q0 := 0) rfl rfl, fun U hU hW => q_ent hP hK hD hU hW⟩ rfl rfl hl.1 rfl (lv_room (Nat.le_of_ble_eq_true rfl)) dX2_comeNew_53 ⟨Nat.le_of_ble_eq_true rfl, Nat.le_of_ble_eq_true rfl⟩) hS (fun q _ h => hFc q h) hFc (fun r1 u t H1 locs ht hvm hw hB hzq hkq hS => ?_)
      obtain ⟨hP1, hK1, hD1⟩ := hB
      rw [ht] at hP1
      have hP : va_P (dC, dI) vwCl (mw ad ci cz li ma wo di ba (nI cp) (nI tg) hi mi go) H1 := hP1
      have hD : va_D A (mw ad ci cz li ma wo di ba (nI cp) (nI tg) hi mi go) := hD1.weaken (fun k q _ h => hFc q.1 h)
      generalize H1 = H at hP hS ⊢
      have hw : r1 = nI (q_last 0 (L 1)) := hw
      subst hw
      have hFc := va_free (wc := (mw ad ci cz li ma wo di ba (nI cp) (nI tg) hi mi go)) hD hS hA [0, 1, 2, 3, 4, 5] rfl
      refine va_callv (va_runV (As := [.int (nI (q_last 0 (L 1)))]) (rest := []) ⟨hx, hb, hml, hown, hts⟩ (metX2_go l dC dI ci cz ad H.size li ma wo di ba (nI cp) (nI tg) hi mi go h64) (cwV 1 hts (lw_V q232 q234 qs13 q17 q235) rfl rfl rfl (by decide +kernel) ⟨Nat.le_of_ble_eq_true rfl, Nat.le_of_ble_eq_true rfl⟩) ⟨q_blind, va_recv hK hP (ci := 1) (q0 := 0) rfl rfl, fun U hU hW => q_ent hP hK hD hU hW⟩ rfl rfl hl.1 rfl (lv_room (Nat.le_of_ble_eq_true rfl)) dX2_comeNew_56 ⟨Nat.le_of_ble_eq_true rfl, Nat.le_of_ble_eq_true rfl⟩) hS (fun q _ h => hFc q h) hFc (fun  u t H1 locs ht hvm hw hB hzq hkq hS => ?_)
      obtain ⟨hP1, hK1, hD1⟩ := hB
      rw [ht] at hP1
      have hP : va_P (dC, dI) vwCl (mw ad ci cz li ma wo (upd di (q_last 0 (L 1)) (nI 0)) (q_gb wo ba di (q_last 0 (L 1))) (nI cp) (nI tg) hi mi (go + nI 1)) H1 := hP1
      have hD : va_D A (mw ad ci cz li ma wo (upd di (q_last 0 (L 1)) (nI 0)) (q_gb wo ba di (q_last 0 (L 1))) (nI cp) (nI tg) hi mi (go + nI 1)) := hD1.weaken (fun k q _ h => hFc q.1 h)
      generalize H1 = H at hP hS ⊢
      refine lv_aload_n hx hb dX2_comeNew_59 rfl (lv_at hl 0 rfl) ?_
      refine lv_aload_n hx hb dX2_comeNew_60 rfl (lv_at hl 0 rfl) ?_
      refine lv_iconst (v := (nI 1)) hx hb dX2_comeNew_61 (by decide) ?_
      have hFc := va_free (wc := (mw ad ci cz li ma wo (upd di (q_last 0 (L 1)) (nI 0)) (q_gb wo ba di (q_last 0 (L 1))) (nI cp) (nI tg) hi mi (go + nI 1))) hD hS hA [0, 1, 2, 3, 4, 5] rfl
      refine va_calli (va_runV (As := [.int (nI 1)]) (rest := [.ref (ad 0)]) ⟨hx, hb, hml, hown, hts⟩ (metX2_old l dC dI ci cz ad H.size li ma wo (upd di (q_last 0 (L 1)) (nI 0)) (q_gb wo ba di (q_last 0 (L 1))) (nI cp) (nI tg) hi mi (go + nI 1) hok hR (by decide) (by decide) hne9) (cwV 1 hts (lw_V q224 q226 qs11 q17 q227) rfl rfl rfl (by decide +kernel) ⟨Nat.le_of_ble_eq_true rfl, Nat.le_of_ble_eq_true rfl⟩) ⟨q_blind, va_recv hK hP (ci := 1) (q0 := 0) rfl rfl, fun U hU hW => q_ent hP hK hD hU hW⟩ rfl rfl hl.1 rfl (lv_room (Nat.le_of_ble_eq_true rfl)) dX2_comeNew_62 ⟨Nat.le_of_ble_eq_true rfl, Nat.le_of_ble_eq_true rfl⟩) hS (fun q _ h => hFc q h) hFc (fun r1 u t H1 locs ht hvm hw hB hzq hkq hS => ?_)
      obtain ⟨hP1, hK1, hD1⟩ := hB
      rw [ht] at hP1
      have hP : va_P (dC, dI) vwCl (mw ad ci cz li ma wo (upd di (q_last 0 (L 1)) (nI 0)) (q_gb wo ba di (q_last 0 (L 1))) (nI cp) (nI tg) hi mi (go + nI 1)) H1 := hP1
      have hD : va_D A (mw ad ci cz li ma wo (upd di (q_last 0 (L 1)) (nI 0)) (q_gb wo ba di (q_last 0 (L 1))) (nI cp) (nI tg) hi mi (go + nI 1)) := hD1.weaken (fun k q _ h => hFc q.1 h)
      generalize H1 = H at hP hS ⊢
      have hw : r1 = nI (q_last 0 (L 1)) := hw
      subst hw
      have hFc := va_free (wc := (mw ad ci cz li ma wo (upd di (q_last 0 (L 1)) (nI 0)) (q_gb wo ba di (q_last 0 (L 1))) (nI cp) (nI tg) hi mi (go + nI 1))) hD hS hA [0, 1, 2, 3, 4, 5] rfl
      refine va_callv (va_runV (As := [.int (nI (q_last 0 (L 1)))]) (rest := []) ⟨hx, hb, hml, hown, hts⟩ (metX2_leave l dC dI ci cz ad H.size li ma wo (upd di (q_last 0 (L 1)) (nI 0)) (q_gb wo ba di (q_last 0 (L 1))) (nI cp) (nI tg) hi mi (go + nI 1) (a := q_last 0 (L 1)) hok hR h64) (cwV 1 hts (lw_V q216 q218 qs9 q17 q219) rfl rfl rfl (by decide +kernel) ⟨Nat.le_of_ble_eq_true rfl, Nat.le_of_ble_eq_true rfl⟩) ⟨q_blind, va_recv hK hP (ci := 1) (q0 := 0) rfl rfl, fun U hU hW => q_ent hP hK hD hU hW⟩ rfl rfl hl.1 rfl (lv_room (Nat.le_of_ble_eq_true rfl)) dX2_comeNew_65 ⟨Nat.le_of_ble_eq_true rfl, Nat.le_of_ble_eq_true rfl⟩) hS (fun q _ h => hFc q h) hFc (fun  u t H1 locs ht hvm hw hB hzq hkq hS => ?_)
      obtain ⟨li1, ma1⟩ := u
      obtain ⟨hP1, hK1, hD1⟩ := hB
      rw [ht] at hP1
      have hP : va_P (dC, dI) vwCl (mw ad ci cz li1 ma1 wo (upd di (q_last 0 (L 1)) (nI 0)) (q_gb wo ba di (q_last 0 (L 1))) (nI cp) (nI tg) hi mi (go + nI 1)) H1 := hP1
      have hD : va_D A (mw ad ci cz li1 ma1 wo (upd di (q_last 0 (L 1)) (nI 0)) (q_gb wo ba di (q_last 0 (L 1))) (nI cp) (nI tg) hi mi (go + nI 1)) := hD1.weaken (fun k q _ h => hFc q.1 h)
      generalize H1 = H at hP hS ⊢
      rw [← q_mv_0] at hw
      have hw : m_rep (q_mv L (q_last 0 (L 1)) 0) li1 ma1 := hw
      refine lv_goto (tgt := 131) hx hb dX2_comeNew_68 (by decide) ?_
      exact KT li1 ma1 _ _ ls (by rw [e9]; exact hw) (by rw [e9]; exact hP) (by rw [e9]; exact hD) hS (lv_sub hl [0, 1] rfl)
    · obtain ⟨hne9, h64, hok9, h29⟩ := q_frA hI g1 g2
      have e9 : (q_fr wo cp tg a (L, ba, di, go)) = q_mk wo tg a (q_mv L (q_last 0 (L 3)) 0, ba, di, go) := by unfold q_fr; rw [if_pos g1, if_pos g2]; rfl
      refine lv_aload_n hx hb dX2_comeNew_33 rfl (lv_at hl 0 rfl) ?_
      refine lv_aload_n hx hb dX2_comeNew_34 rfl (lv_at hl 0 rfl) ?_
      refine lv_iconst (v := (nI 3)) hx hb dX2_comeNew_35 (by decide) ?_
      have hFc := va_free (wc := (mw ad ci cz li ma wo di ba (nI cp) (nI tg) hi mi go)) hD hS hA [0, 1, 2, 3, 4, 5] rfl
      refine va_calli (va_runV (As := [.int (nI 3)]) (rest := [.ref (ad 0)]) ⟨hx, hb, hml, hown, hts⟩ (metX2_old l dC dI ci cz ad s.heap.size li ma wo di ba (nI cp) (nI tg) hi mi go hok hR (by decide) (by decide) hne9) (cwV 1 hts (lw_V q224 q226 qs11 q17 q227) rfl rfl rfl (by decide +kernel) ⟨Nat.le_of_ble_eq_true rfl, Nat.le_of_ble_eq_true rfl⟩) ⟨q_blind, va_recv hK hP (ci := 1) (q0 := 0) rfl rfl, fun U hU hW => q_ent hP hK hD hU hW⟩ rfl rfl hl.1 rfl (lv_room (Nat.le_of_ble_eq_true rfl)) dX2_comeNew_36 ⟨Nat.le_of_ble_eq_true rfl, Nat.le_of_ble_eq_true rfl⟩) hS (fun q _ h => hFc q h) hFc (fun r1 u t H1 locs ht hvm hw hB hzq hkq hS => ?_)
      obtain ⟨hP1, hK1, hD1⟩ := hB
      rw [ht] at hP1
      have hP : va_P (dC, dI) vwCl (mw ad ci cz li ma wo di ba (nI cp) (nI tg) hi mi go) H1 := hP1
      have hD : va_D A (mw ad ci cz li ma wo di ba (nI cp) (nI tg) hi mi go) := hD1.weaken (fun k q _ h => hFc q.1 h)
      generalize H1 = H at hP hS ⊢
      have hw : r1 = nI (q_last 0 (L 3)) := hw
      subst hw
      have hFc := va_free (wc := (mw ad ci cz li ma wo di ba (nI cp) (nI tg) hi mi go)) hD hS hA [0, 1, 2, 3, 4, 5] rfl
      refine va_callv (va_runV (As := [.int (nI (q_last 0 (L 3)))]) (rest := []) ⟨hx, hb, hml, hown, hts⟩ (metX2_leave l dC dI ci cz ad H.size li ma wo di ba (nI cp) (nI tg) hi mi go (a := q_last 0 (L 3)) hok hR h64) (cwV 1 hts (lw_V q216 q218 qs9 q17 q219) rfl rfl rfl (by decide +kernel) ⟨Nat.le_of_ble_eq_true rfl, Nat.le_of_ble_eq_true rfl⟩) ⟨q_blind, va_recv hK hP (ci := 1) (q0 := 0) rfl rfl, fun U hU hW => q_ent hP hK hD hU hW⟩ rfl rfl hl.1 rfl (lv_room (Nat.le_of_ble_eq_true rfl)) dX2_comeNew_39 ⟨Nat.le_of_ble_eq_true rfl, Nat.le_of_ble_eq_true rfl⟩) hS (fun q _ h => hFc q h) hFc (fun  u t H1 locs ht hvm hw hB hzq hkq hS => ?_)
      obtain ⟨li1, ma1⟩ := u
      obtain ⟨hP1, hK1, hD1⟩ := hB
      rw [ht] at hP1
      have hP : va_P (dC, dI) vwCl (mw ad ci cz li1 ma1 wo di ba (nI cp) (nI tg) hi mi go) H1 := hP1
      have hD : va_D A (mw ad ci cz li1 ma1 wo di ba (nI cp) (nI tg) hi mi go) := hD1.weaken (fun k q _ h => hFc q.1 h)
      generalize H1 = H at hP hS ⊢
      rw [← q_mv_0] at hw
      have hw : m_rep (q_mv L (q_last 0 (L 3)) 0) li1 ma1 := hw
      refine lv_aload_n hx hb dX2_comeNew_42 rfl (lv_at hl 0 rfl) ?_
      refine lv_iload_n hx hb dX2_comeNew_43 rfl (lv_at hl 1 rfl) ?_
      have hFc := va_free (wc := (mw ad ci cz li1 ma1 wo di ba (nI cp) (nI tg) hi mi go)) hD hS hA [0, 1, 2, 3, 4, 5] rfl
      refine va_callv (va_runV (As := [.int (nI a)]) (rest := []) ⟨hx, hb, hml, hown, hts⟩ (metX2_makeRoom l dC dI ci cz ad H.size li1 ma1 wo di ba (nI cp) hi mi go (tg := tg) (a := a) hok9 hw ha (show tg ≤ 24 by omega) (fun _ => h29)) (cwV 1 hts (lw_V q228 q230 qs12 q17 q231) rfl rfl rfl (by decide +kernel) ⟨Nat.le_of_ble_eq_true rfl, Nat.le_of_ble_eq_true rfl⟩) ⟨q_blind, va_recv hK hP (ci := 1) (q0 := 0) rfl rfl, fun U hU hW => q_ent hP hK hD hU hW⟩ rfl rfl hl.1 rfl (lv_room (Nat.le_of_ble_eq_true rfl)) dX2_comeNew_44 ⟨Nat.le_of_ble_eq_true rfl, Nat.le_of_ble_eq_true rfl⟩) hS (fun q _ h => hFc q h) hFc (fun  u t H1 locs ht hvm hw2 hB hzq hkq hS => ?_)
      obtain ⟨li2, ma2⟩ := u
      obtain ⟨hP1, hK1, hD1⟩ := hB
      rw [ht] at hP1
      have hP : va_P (dC, dI) vwCl (mw ad ci cz li2 ma2 wo ((q_mk wo tg a (q_mv L (q_last 0 (L 3)) 0, ba, di, go)).2.2.1) ((q_mk wo tg a (q_mv L (q_last 0 (L 3)) 0, ba, di, go)).2.1) (nI cp) (nI tg) hi mi ((q_mk wo tg a (q_mv L (q_last 0 (L 3)) 0, ba, di, go)).2.2.2)) H1 := hP1
      have hD : va_D A (mw ad ci cz li2 ma2 wo ((q_mk wo tg a (q_mv L (q_last 0 (L 3)) 0, ba, di, go)).2.2.1) ((q_mk wo tg a (q_mv L (q_last 0 (L 3)) 0, ba, di, go)).2.1) (nI cp) (nI tg) hi mi ((q_mk wo tg a (q_mv L (q_last 0 (L 3)) 0, ba, di, go)).2.2.2)) := hD1.weaken (fun k q _ h => hFc q.1 h)
      have hw2 : m_rep (q_mk wo tg a (q_mv L (q_last 0 (L 3)) 0, ba, di, go)).1 li2 ma2 := hw2
      generalize H1 = H at hP hS ⊢
      refine lv_goto (tgt := 131) hx hb dX2_comeNew_47 (by decide) ?_
      exact KT li2 ma2 _ _ ls (by rw [e9]; exact hw2) (by rw [e9]; exact hP) (by rw [e9]; exact hD) hS (lv_sub hl [0, 1] rfl)
end
section
/-- request(a) -/
abbrev wsX2_request : List Cond := ws_ yX2_request cX2_request 4 none
set_option maxHeartbeats 4000000 in
set_option maxRecDepth 100000 in
theorem metX2_request (l : Launch) (dC : Nat → ClassId) (dI : Nat → Nat → Nat) (ci cz : ClassId) (ad : Nat → Nat) (sz : Nat) (li ma wo di ba : Nat → Int32) (hi mi go : Int32) {L : Nat → List Nat} {cp tg a : Nat} (hI : q_inv cp L di tg) (hR : m_rep L li ma) (ha : a < 64) : Met l yX2_request wsX2_request ({ frames := 5, cells := 0, slots := 0, locals := 116 }) (va_Pc [.ref (ad 0), .int (nI a)] (q_Pre dC dI ci cz sz (mw ad ci cz li ma wo di ba (nI cp) (nI tg) hi mi go))) (va_Qv (fun u : m_U => m_rep (q_rq cp a L wo ba di tg hi mi go).1 u.1 u.2) (mB dC dI ci cz (va_A (mw ad ci cz li ma wo di ba (nI cp) (nI tg) hi mi go) sz) ad ((q_rq cp a L wo ba di tg hi mi go).2.1) ((q_rq cp a L wo ba di tg hi mi go).2.2.2.1) ((q_rq cp a L wo ba di tg hi mi go).2.2.1) (nI cp) (nI (q_rq cp a L wo ba di tg hi mi go).2.2.2.2.1) ((q_rq cp a L wo ba di tg hi mi go).2.2.2.2.2.1) ((q_rq cp a L wo ba di tg hi mi go).2.2.2.2.2.2.1) ((q_rq cp a L wo ba di tg hi mi go).2.2.2.2.2.2.2)) (va_A (mw ad ci cz li ma wo di ba (nI cp) (nI tg) hi mi go) sz)) 0 0 (va_A (mw ad ci cz li ma wo di ba (nI cp) (nI tg) hi mi go) sz) := by
  refine Met.ofW (cc := cX2_request) (maxL := 4) (ret := none) (by decide) rfl ?_
  intro p e s m args below meth c s₁ B hml hv
  obtain ⟨rfl, hsz, hP, hK, hD0⟩ := hv
  have hx := B.exec
  have hb := B.bytes
  have hr := B.returns
  have hts := atoms_spec (ws := wsX2_request) B.pre
  have hts : ∀ w ∈ lw_all, w.before _ s = true := fun w h => hts w (List.mem_cons_of_mem _ h)
  have hown : s.vm.findClass RX2 = some m.cls := findClass_of_methodNamed B.named
  have hlocks := B.notSynchronized
  subst hsz
  have hD := hD0.self (sz := s.heap.size)
  generalize hAe : va_A (mw ad ci cz li ma wo di ba (nI cp) (nI tg) hi mi go) s.heap.size = A at hD ⊢
  have hA : ∀ q : Nat, s.heap.size ≤ q → A q := fun q h => by rw [← hAe]; exact Or.inr h
  have hS : va_S A s.heap s.heap [] := va_S.rf
  have hP : va_P (dC, dI) vwCl (mw ad ci cz li ma wo di ba (nI cp) (nI tg) hi mi go) s.heap := hP
  have hl := lv_entry ([.ref (ad 0), .int (nI a)]) (n := 4) (Nat.le_of_ble_eq_true rfl)
  rw [lg_entry_eq]
  generalize (lg_sl ([.ref (ad 0), .int (nI a)]) ++ List.replicate (4 - (lg_sl ([.ref (ad 0), .int (nI a)])).length) Slot.unset).toArray = ls at hl ⊢
  have hl : lv_has ls 4 [(0, .ref (ad 0)), (1, .int (nI a))] := hl
  have hok := hI.1.1
  have hcb := hI.2.1
  have hw4 := q_wh_le L a
  have h3 := q_L64 hok 3
  have h4 := q_L64 hok 4
  refine lv_aload_n hx hb dX2_request_0 rfl (lv_at hl 0 rfl) ?_
  refine lv_iload_n hx hb dX2_request_1 rfl (lv_at hl 1 rfl) ?_
  have hFc := va_free (wc := (mw ad ci cz li ma wo di ba (nI cp) (nI tg) hi mi go)) hD hS hA [0, 1, 2, 3, 4, 5] rfl
  refine va_calli (va_runV (As := [.int (nI a)]) (rest := []) ⟨hx, hb, hml, hown, hts⟩ (metX2_whichList l dC dI ci cz ad s.heap.size li ma wo di ba (nI cp) (nI tg) hi mi go (v := nI a) hok hR) (cwV 1 hts (lw_V q211 q197 q198 q17 q199) rfl rfl rfl (by decide +kernel) ⟨Nat.le_of_ble_eq_true rfl, Nat.le_of_ble_eq_true rfl⟩) ⟨q_blind, va_recv hK hP (ci := 1) (q0 := 0) rfl rfl, fun U hU hW => q_ent hP hK hD hU hW⟩ rfl rfl hl.1 rfl (lv_room (Nat.le_of_ble_eq_true rfl)) dX2_request_2 ⟨Nat.le_of_ble_eq_true rfl, Nat.le_of_ble_eq_true rfl⟩) hS (fun q _ h => hFc q h) hFc (fun r1 u t H1 locs ht hvm hw hB hzq hkq hS => ?_)
  obtain ⟨hP1, hK1, hD1⟩ := hB
  rw [ht] at hP1
  have hP : va_P (dC, dI) vwCl (mw ad ci cz li ma wo di ba (nI cp) (nI tg) hi mi go) H1 := hP1
  have hD : va_D A (mw ad ci cz li ma wo di ba (nI cp) (nI tg) hi mi go) := hD1.weaken (fun k q _ h => hFc q.1 h)
  generalize H1 = H at hP hS ⊢
  have hw : r1 = q_so (q_wlf L) (nI a) := hw
  rw [q_so_in ha] at hw
  have hw : r1 = nI (q_wh L a) := hw
  subst hw
  refine lv_istore_n (lv' := [(2, .int (nI (q_wh L a))), (0, .ref (ad 0)), (1, .int (nI a))]) hx hb dX2_request_5 rfl hl (by decide) rfl (fun ls hl => ?_)
  have KH : (q_wh L a = 1 ∨ q_wh L a = 2) → W p l e (headSpec wsX2_request ({ frames := 5, cells := 0, slots := 0, locals := 116 })).room s m ([.ref (ad 0), .int (nI a)] : List Value).toArray below meth c H locs 0 0 (MQ below (va_Qv (fun u : m_U => m_rep (q_rq cp a L wo ba di tg hi mi go).1 u.1 u.2) (mB dC dI ci cz A ad ((q_rq cp a L wo ba di tg hi mi go).2.1) ((q_rq cp a L wo ba di tg hi mi go).2.2.2.1) ((q_rq cp a L wo ba di tg hi mi go).2.2.1) (nI cp) (nI (q_rq cp a L wo ba di tg hi mi go).2.2.2.2.1) ((q_rq cp a L wo ba di tg hi mi go).2.2.2.2.2.1) ((q_rq cp a L wo ba di tg hi mi go).2.2.2.2.2.2.1) ((q_rq cp a L wo ba di tg hi mi go).2.2.2.2.2.2.2)) A) ([.ref (ad 0), .int (nI a)] : List Value).toArray s 0 0 A) (F0 m 16 ls []) := by
    intro hkk
    have e9 : (q_rq cp a L wo ba di tg hi mi go) = (q_mv L a 2, wo, ba, di, tg, hi + nI 1, mi, go) := if_pos hkk
    refine lv_aload_n hx hb dX2_request_16 rfl (lv_at hl 1 rfl) ?_
    refine lv_dup hx hb dX2_request_17 rfl ?_
    refine va_get (D := (dC, dI)) (ci := 1) (v := .int hi) (C := RX2) (T := TX2) (N := 10) hx hb hts in_X2 hown hK hP 0 rfl rfl 7 (by decide) (hts _ q168) (fun _ h9 => h9) rfl dX2_request_18 ?_
    refine lv_iconst (v := (nI 1)) hx hb dX2_request_21 (by decide) ?_
    refine lv_iadd hx hb dX2_request_22 ?_
    refine va_put (D := (dC, dI)) (ci := 1) (v := .int (hi + (nI 1))) (ty := .int) (C := RX2) (T := TX2) (N := 10) hx hb hts in_X2 tyX2 tyX2_ok nmX2 hown hK hP hD hS 0 rfl rfl 7 (by decide) (hts _ q168) (fun _ h9 => h9) rfl (by decide +kernel) rfl rfl (Nat.le_of_ble_eq_true rfl) dX2_request_23 (fun H locs hP hD hS => ?_)
    have hP : va_P (dC, dI) vwCl (mw ad ci cz li ma wo di ba (nI cp) (nI tg) (hi + (nI 1)) mi go) H := hP
    have hD : va_D A (mw ad ci cz li ma wo di ba (nI cp) (nI tg) (hi + (nI 1)) mi go) := hD
    refine lv_aload_n hx hb dX2_request_26 rfl (lv_at hl 1 rfl) ?_
    refine lv_iload_n hx hb dX2_request_27 rfl (lv_at hl 2 rfl) ?_
    refine lv_iconst (v := (nI 2)) hx hb dX2_request_28 (by decide) ?_
    have hFc := va_free (wc := (mw ad ci cz li ma wo di ba (nI cp) (nI tg) (hi + (nI 1)) mi go)) hD hS hA [0, 1, 2, 3, 4, 5] rfl
    refine va_callv (va_runV (As := [.int (nI a), .int (nI 2)]) (rest := []) ⟨hx, hb, hml, hown, hts⟩ (metX2_come l dC dI ci cz ad H.size li ma wo di ba (nI cp) (nI tg) (hi + (nI 1)) mi go hok hR ha (show 1 ≤ 2 by decide) (show 2 ≤ 4 by decide)) (cwV 2 hts (lw_V q212 q214 qs8 q17 q215) rfl rfl rfl (by decide +kernel) ⟨Nat.le_of_ble_eq_true rfl, Nat.le_of_ble_eq_true rfl⟩) ⟨q_blind, va_recv hK hP (ci := 1) (q0 := 0) rfl rfl, fun U hU hW => q_ent hP hK hD hU hW⟩ rfl rfl hl.1 rfl (lv_room (Nat.le_of_ble_eq_true rfl)) dX2_request_29 ⟨Nat.le_of_ble_eq_true rfl, Nat.le_of_ble_eq_true rfl⟩) hS (fun q _ h => hFc q h) hFc (fun  u t H1 locs ht hvm hw hB hzq hkq hS => ?_)
    obtain ⟨li1, ma1⟩ := u
    obtain ⟨hP1, hK1, hD1⟩ := hB
    rw [ht] at hP1
    have hP : va_P (dC, dI) vwCl (mw ad ci cz li1 ma1 wo di ba (nI cp) (nI tg) (hi + (nI 1)) mi go) H1 := hP1
    have hD : va_D A (mw ad ci cz li1 ma1 wo di ba (nI cp) (nI tg) (hi + (nI 1)) mi go) := hD1.weaken (fun k q _ h => hFc q.1 h)
    have hw : m_rep (q_mv L a 2) li1 ma1 := hw
    generalize H1 = H at hP hS ⊢
    exact W.vret hx hb hr (fun t ht hW => ⟨⟨(li1, ma1), rfl, (by rw [e9]; exact hw), by rw [ht]; exact (by rw [e9]; exact hP), va_K.moved hW.alike hK, (by rw [e9]; exact hD)⟩, hS.F ht⟩) hS.2.2 dX2_request_32
  have KE : ¬ (q_wh L a = 1 ∨ q_wh L a = 2) → ∀ (li ma : Nat → Int32) (H : Heap) (locs : List Loc) (ls : Array Slot), m_rep (q_mv (q_ms cp a L wo ba di tg go).1 a (if q_wh L a = 0 then 1 else 2)) li ma → va_P (dC, dI) vwCl (mw ad ci cz li ma wo ((q_ms cp a L wo ba di tg go).2.2.1) ((q_ms cp a L wo ba di tg go).2.1) (nI cp) (nI (q_tg cp L tg (q_wh L a))) hi (mi + nI 1) ((q_ms cp a L wo ba di tg go).2.2.2)) H → va_D A (mw ad ci cz li ma wo ((q_ms cp a L wo ba di tg go).2.2.1) ((q_ms cp a L wo ba di tg go).2.1) (nI cp) (nI (q_tg cp L tg (q_wh L a))) hi (mi + nI 1) ((q_ms cp a L wo ba di tg go).2.2.2)) → va_S A s.heap H locs → lv_has ls 4 [(0, .ref (ad 0)), (1, .int (nI a))] → W p l e (headSpec wsX2_request ({ frames := 5, cells := 0, slots := 0, locals := 116 })).room s m ([.ref (ad 0), .int (nI a)] : List Value).toArray below meth c H locs 0 0 (MQ below (va_Qv (fun u : m_U => m_rep (q_rq cp a L wo ba di tg hi mi go).1 u.1 u.2) (mB dC dI ci cz A ad ((q_rq cp a L wo ba di tg hi mi go).2.1) ((q_rq cp a L wo ba di tg hi mi go).2.2.2.1) ((q_rq cp a L wo ba di tg hi mi go).2.2.1) (nI cp) (nI (q_rq cp a L wo ba di tg hi mi go).2.2.2.2.1) ((q_rq cp a L wo ba di tg hi mi go).2.2.2.2.2.1) ((q_rq cp a L wo ba di tg hi mi go).2.2.2.2.2.2.1) ((q_rq cp a L wo ba di tg hi mi go).2.2.2.2.2.2.2)) A) ([.ref (ad 0), .int (nI a)] : List Value).toArray s 0 0 A) (F0 m 190 ls []) := by
    intro hkk li ma H locs ls hR hP hD hS hl
    have e9 : (q_rq cp a L wo ba di tg hi mi go) = (q_mv (q_ms cp a L wo ba di tg go).1 a (if q_wh L a = 0 then 1 else 2), upd wo a ((q_ms cp a L wo ba di tg go).2.1 a), (q_ms cp a L wo ba di tg go).2.1, (q_ms cp a L wo ba di tg go).2.2.1, (q_tg cp L tg (q_wh L a)), hi, mi + nI 1, (q_ms cp a L wo ba di tg go).2.2.2) := if_neg hkk
    refine lv_aload_n hx hb dX2_request_190 rfl (lv_at hl 0 rfl) ?_
    refine va_get (D := (dC, dI)) (ci := 1) (v := .ref (ad 4)) (C := RX2) (T := TX2) (N := 10) hx hb hts in_X2 hown hK hP 0 rfl rfl 4 (by decide) (hts _ q165) (fun _ h9 => h9) rfl dX2_request_191 ?_
    refine lv_iload_n hx hb dX2_request_194 rfl (lv_at hl 1 rfl) ?_
    refine lv_aload_n hx hb dX2_request_195 rfl (lv_at hl 0 rfl) ?_
    refine va_get (D := (dC, dI)) (ci := 1) (v := .ref (ad 3)) (C := RX2) (T := TX2) (N := 10) hx hb hts in_X2 hown hK hP 0 rfl rfl 3 (by decide) (hts _ q164) (fun _ h9 => h9) rfl dX2_request_196 ?_
    refine lv_iload_n hx hb dX2_request_199 rfl (lv_at hl 1 rfl) ?_
    refine q_iald (v := (((q_ms cp a L wo ba di tg go).2.1) a)) hx hb hK hP 3 0 rfl rfl (by omega) (by decide) rfl dX2_request_200 ?_
    refine q_iast (g := (upd wo a (((q_ms cp a L wo ba di tg go).2.1) a))) hx hb hK hP hD hS 4 0 rfl rfl (by omega) (by decide) rfl dX2_request_201 (fun H locs hP hD hS => ?_)
    have hP : va_P (dC, dI) vwCl (mw ad ci cz li ma (upd wo a (((q_ms cp a L wo ba di tg go).2.1) a)) ((q_ms cp a L wo ba di tg go).2.2.1) ((q_ms cp a L wo ba di tg go).2.1) (nI cp) (nI (q_tg cp L tg (q_wh L a))) hi (mi + nI 1) ((q_ms cp a L wo ba di tg go).2.2.2)) H := hP
    have hD : va_D A (mw ad ci cz li ma (upd wo a (((q_ms cp a L wo ba di tg go).2.1) a)) ((q_ms cp a L wo ba di tg go).2.2.1) ((q_ms cp a L wo ba di tg go).2.1) (nI cp) (nI (q_tg cp L tg (q_wh L a))) hi (mi + nI 1) ((q_ms cp a L wo ba di tg go).2.2.2)) := hD
    refine lv_aload_n hx hb dX2_request_202 rfl (lv_at hl 0 rfl) ?_
    refine va_get (D := (dC, dI)) (ci := 1) (v := .ref (ad 5)) (C := RX2) (T := TX2) (N := 10) hx hb hts in_X2 hown hK hP 0 rfl rfl 5 (by decide) (hts _ q166) (fun _ h9 => h9) rfl dX2_request_203 ?_
    refine lv_iload_n hx hb dX2_request_206 rfl (lv_at hl 1 rfl) ?_
    refine lv_iconst (v := (nI 0)) hx hb dX2_request_207 (by decide) ?_
    refine q_zast (g := (q_ms cp a L wo ba di tg go).2.2.1) hx hb hK hP hD hS 5 1 rfl rfl (by omega) (by decide) (by decide) (q_ms_di hI (fun q => hkk (Or.inl q)) (fun q => hkk (Or.inr q))) dX2_request_208 (fun H locs hP hD hS => ?_)
    have hP : va_P (dC, dI) vwCl (mw ad ci cz li ma (upd wo a (((q_ms cp a L wo ba di tg go).2.1) a)) ((q_ms cp a L wo ba di tg go).2.2.1) ((q_ms cp a L wo ba di tg go).2.1) (nI cp) (nI (q_tg cp L tg (q_wh L a))) hi (mi + nI 1) ((q_ms cp a L wo ba di tg go).2.2.2)) H := hP
    have hD : va_D A (mw ad ci cz li ma (upd wo a (((q_ms cp a L wo ba di tg go).2.1) a)) ((q_ms cp a L wo ba di tg go).2.2.1) ((q_ms cp a L wo ba di tg go).2.1) (nI cp) (nI (q_tg cp L tg (q_wh L a))) hi (mi + nI 1) ((q_ms cp a L wo ba di tg go).2.2.2)) := hD
    exact W.vret hx hb hr (fun t ht hW => ⟨⟨(li, ma), rfl, (by rw [e9]; exact hR), by rw [ht]; exact (by rw [e9]; exact hP), va_K.moved hW.alike hK, (by rw [e9]; exact hD)⟩, hS.F ht⟩) hS.2.2 dX2_request_209
  have KT : ¬ (q_wh L a = 1 ∨ q_wh L a = 2) → ∀ (H : Heap) (locs : List Loc) (ls : Array Slot), va_P (dC, dI) vwCl (mw ad ci cz li ma wo di ba (nI cp) (nI (q_tg cp L tg (q_wh L a))) hi (mi + nI 1) go) H → va_D A (mw ad ci cz li ma wo di ba (nI cp) (nI (q_tg cp L tg (q_wh L a))) hi (mi + nI 1) go) → va_S A s.heap H locs → lv_has ls 4 [(2, .int (nI (q_wh L a))), (0, .ref (ad 0)), (1, .int (nI a))] → W p l e (headSpec wsX2_request ({ frames := 5, cells := 0, slots := 0, locals := 116 })).room s m ([.ref (ad 0), .int (nI a)] : List Value).toArray below meth c H locs 0 0 (MQ below (va_Qv (fun u : m_U => m_rep (q_rq cp a L wo ba di tg hi mi go).1 u.1 u.2) (mB dC dI ci cz A ad ((q_rq cp a L wo ba di tg hi mi go).2.1) ((q_rq cp a L wo ba di tg hi mi go).2.2.2.1) ((q_rq cp a L wo ba di tg hi mi go).2.2.1) (nI cp) (nI (q_rq cp a L wo ba di tg hi mi go).2.2.2.2.1) ((q_rq cp a L wo ba di tg hi mi go).2.2.2.2.2.1) ((q_rq cp a L wo ba di tg hi mi go).2.2.2.2.2.2.1) ((q_rq cp a L wo ba di tg hi mi go).2.2.2.2.2.2.2)) A) ([.ref (ad 0), .int (nI a)] : List Value).toArray s 0 0 A) (F0 m 167 ls []) := by
    intro hkk H locs ls hP hD hS hl
    have hms := q_ms_ok (wo := wo) (ba := ba) (go := go) hI (fun q => hkk (Or.inl q)) (fun q => hkk (Or.inr q))
    refine lv_iload_n hx hb dX2_request_167 rfl (lv_at hl 0 rfl) ?_
    refine q_if_ne (tgt := 179) hx hb (by omega) dX2_request_168 (by decide) (fun hz => ?_) (fun hz => ?_)
    · have hne9 : ¬ q_fst L (q_tg cp L tg (q_wh L a)) a → L 2 ≠ [] := fun q => by
        rcases (show q_wh L a = 3 ∨ q_wh L a = 4 by omega) with w | w
        · exact (q_rq3 hI w).2
        · exact (q_rq4 hI w).2 (by rw [w] at q; exact q)
      refine lv_aload_n hx hb dX2_request_179 rfl (lv_at hl 1 rfl) ?_
      refine lv_iload_n hx hb dX2_request_180 rfl (lv_at hl 2 rfl) ?_
      have hFc := va_free (wc := (mw ad ci cz li ma wo di ba (nI cp) (nI (q_tg cp L tg (q_wh L a))) hi (mi + nI 1) go)) hD hS hA [0, 1, 2, 3, 4, 5] rfl
      refine va_callv (va_runV (As := [.int (nI a)]) (rest := []) ⟨hx, hb, hml, hown, hts⟩ (metX2_makeRoom l dC dI ci cz ad H.size li ma wo di ba (nI cp) hi (mi + nI 1) go (tg := (q_tg cp L tg (q_wh L a))) (a := a) hok hR ha (Nat.le_trans (q_tg_le hcb.2.2) hcb.2.1) hne9) (cwV 1 hts (lw_V q228 q230 qs12 q17 q231) rfl rfl rfl (by decide +kernel) ⟨Nat.le_of_ble_eq_true rfl, Nat.le_of_ble_eq_true rfl⟩) ⟨q_blind, va_recv hK hP (ci := 1) (q0 := 0) rfl rfl, fun U hU hW => q_ent hP hK hD hU hW⟩ rfl rfl hl.1 rfl (lv_room (Nat.le_of_ble_eq_true rfl)) dX2_request_181 ⟨Nat.le_of_ble_eq_true rfl, Nat.le_of_ble_eq_true rfl⟩) hS (fun q _ h => hFc q h) hFc (fun  u t H1 locs ht hvm hw2 hB hzq hkq hS => ?_)
      obtain ⟨li2, ma2⟩ := u
      obtain ⟨hP1, hK1, hD1⟩ := hB
      rw [ht] at hP1
      have hP : va_P (dC, dI) vwCl (mw ad ci cz li2 ma2 wo ((q_mk wo (q_tg cp L tg (q_wh L a)) a (L, ba, di, go)).2.2.1) ((q_mk wo (q_tg cp L tg (q_wh L a)) a (L, ba, di, go)).2.1) (nI cp) (nI (q_tg cp L tg (q_wh L a))) hi (mi + nI 1) ((q_mk wo (q_tg cp L tg (q_wh L a)) a (L, ba, di, go)).2.2.2)) H1 := hP1
      have hD : va_D A (mw ad ci cz li2 ma2 wo ((q_mk wo (q_tg cp L tg (q_wh L a)) a (L, ba, di, go)).2.2.1) ((q_mk wo (q_tg cp L tg (q_wh L a)) a (L, ba, di, go)).2.1) (nI cp) (nI (q_tg cp L tg (q_wh L a))) hi (mi + nI 1) ((q_mk wo (q_tg cp L tg (q_wh L a)) a (L, ba, di, go)).2.2.2)) := hD1.weaken (fun k q _ h => hFc q.1 h)
      have hw2 : m_rep (q_mk wo (q_tg cp L tg (q_wh L a)) a (L, ba, di, go)).1 li2 ma2 := hw2
      generalize H1 = H at hP hS ⊢
      have ems : (q_ms cp a L wo ba di tg go) = (q_mk wo (q_tg cp L tg (q_wh L a)) a (L, ba, di, go)) := if_neg hz
      rw [← ems] at hw2 hP hD
      refine lv_aload_n hx hb dX2_request_184 rfl (lv_at hl 1 rfl) ?_
      refine lv_iload_n hx hb dX2_request_185 rfl (lv_at hl 2 rfl) ?_
      refine lv_iconst (v := (nI 2)) hx hb dX2_request_186 (by decide) ?_
      have hFc := va_free (wc := (mw ad ci cz li2 ma2 wo ((q_ms cp a L wo ba di tg go).2.2.1) ((q_ms cp a L wo ba di tg go).2.1) (nI cp) (nI (q_tg cp L tg (q_wh L a))) hi (mi + nI 1) ((q_ms cp a L wo ba di tg go).2.2.2))) hD hS hA [0, 1, 2, 3, 4, 5] rfl
      refine va_callv (va_runV (As := [.int (nI a), .int (nI 2)]) (rest := []) ⟨hx, hb, hml, hown, hts⟩ (metX2_come l dC dI ci cz ad H.size li2 ma2 wo ((q_ms cp a L wo ba di tg go).2.2.1) ((q_ms cp a L wo ba di tg go).2.1) (nI cp) (nI (q_tg cp L tg (q_wh L a))) hi (mi + nI 1) ((q_ms cp a L wo ba di tg go).2.2.2) hms.1.1 hw2 ha (show 1 ≤ 2 by decide) (show 2 ≤ 4 by decide)) (cwV 2 hts (lw_V q212 q214 qs8 q17 q215) rfl rfl rfl (by decide +kernel) ⟨Nat.le_of_ble_eq_true rfl, Nat.le_of_ble_eq_true rfl⟩) ⟨q_blind, va_recv hK hP (ci := 1) (q0 := 0) rfl rfl, fun U hU hW => q_ent hP hK hD hU hW⟩ rfl rfl hl.1 rfl (lv_room (Nat.le_of_ble_eq_true rfl)) dX2_request_187 ⟨Nat.le_of_ble_eq_true rfl, Nat.le_of_ble_eq_true rfl⟩) hS (fun q _ h => hFc q h) hFc (fun  u t H1 locs ht hvm hw hB hzq hkq hS => ?_)
      obtain ⟨li1, ma1⟩ := u
      obtain ⟨hP1, hK1, hD1⟩ := hB
      rw [ht] at hP1
      have hP : va_P (dC, dI) vwCl (mw ad ci cz li1 ma1 wo ((q_ms cp a L wo ba di tg go).2.2.1) ((q_ms cp a L wo ba di tg go).2.1) (nI cp) (nI (q_tg cp L tg (q_wh L a))) hi (mi + nI 1) ((q_ms cp a L wo ba di tg go).2.2.2)) H1 := hP1
      have hD : va_D A (mw ad ci cz li1 ma1 wo ((q_ms cp a L wo ba di tg go).2.2.1) ((q_ms cp a L wo ba di tg go).2.1) (nI cp) (nI (q_tg cp L tg (q_wh L a))) hi (mi + nI 1) ((q_ms cp a L wo ba di tg go).2.2.2)) := hD1.weaken (fun k q _ h => hFc q.1 h)
      have hw : m_rep (q_mv (q_ms cp a L wo ba di tg go).1 a 2) li1 ma1 := hw
      generalize H1 = H at hP hS ⊢
      exact KE hkk li1 ma1 _ _ ls (by rw [if_neg hz]; exact hw) hP hD hS (lv_sub hl [1, 2] rfl)
    · have etg : (q_tg cp L tg (q_wh L a)) = tg := by rw [hz]; rfl
      have ems : (q_ms cp a L wo ba di tg go) = (q_fr wo cp tg a (L, ba, di, go)) := if_pos hz
      rw [etg] at hP hD
      refine lv_aload_n hx hb dX2_request_171 rfl (lv_at hl 1 rfl) ?_
      refine lv_iload_n hx hb dX2_request_172 rfl (lv_at hl 2 rfl) ?_
      have hFc := va_free (wc := (mw ad ci cz li ma wo di ba (nI cp) (nI tg) hi (mi + nI 1) go)) hD hS hA [0, 1, 2, 3, 4, 5] rfl
      refine va_callv (va_runV (As := [.int (nI a)]) (rest := []) ⟨hx, hb, hml, hown, hts⟩ (metX2_comeNew l dC dI ci cz ad H.size li ma wo di ba hi (mi + nI 1) go (a := a) hI hR ha hz) (cwV 1 hts (lw_V q220 q222 qs10 q17 q223) rfl rfl rfl (by decide +kernel) ⟨Nat.le_of_ble_eq_true rfl, Nat.le_of_ble_eq_true rfl⟩) ⟨q_blind, va_recv hK hP (ci := 1) (q0 := 0) rfl rfl, fun U hU hW => q_ent hP hK hD hU hW⟩ rfl rfl hl.1 rfl (lv_room (Nat.le_of_ble_eq_true rfl)) dX2_request_173 ⟨Nat.le_of_ble_eq_true rfl, Nat.le_of_ble_eq_true rfl⟩) hS (fun q _ h => hFc q h) hFc (fun  u t H1 locs ht hvm hw hB hzq hkq hS => ?_)
      obtain ⟨li1, ma1⟩ := u
      obtain ⟨hP1, hK1, hD1⟩ := hB
      rw [ht] at hP1
      have hP : va_P (dC, dI) vwCl (mw ad ci cz li1 ma1 wo ((q_fr wo cp tg a (L, ba, di, go)).2.2.1) ((q_fr wo cp tg a (L, ba, di, go)).2.1) (nI cp) (nI tg) hi (mi + nI 1) ((q_fr wo cp tg a (L, ba, di, go)).2.2.2)) H1 := hP1
      have hD : va_D A (mw ad ci cz li1 ma1 wo ((q_fr wo cp tg a (L, ba, di, go)).2.2.1) ((q_fr wo cp tg a (L, ba, di, go)).2.1) (nI cp) (nI tg) hi (mi + nI 1) ((q_fr wo cp tg a (L, ba, di, go)).2.2.2)) := hD1.weaken (fun k q _ h => hFc q.1 h)
      have hw : m_rep (q_mv (q_fr wo cp tg a (L, ba, di, go)).1 a 1) li1 ma1 := hw
      generalize H1 = H at hP hS ⊢
      refine lv_goto (tgt := 190) hx hb dX2_request_176 (by decide) ?_
      exact KE hkk li1 ma1 _ _ ls (by rw [if_pos hz, ems]; exact hw) (by rw [etg, ems]; exact hP) (by rw [etg, ems]; exact hD) hS (lv_sub hl [1, 2] rfl)
  refine lv_iload_n hx hb dX2_request_6 rfl (lv_at hl 0 rfl) ?_
  refine lv_iconst (v := (nI 1)) hx hb dX2_request_7 (by decide) ?_
  refine q_icmp_eq (tgt := 16) hx hb (by omega) (by omega) dX2_request_8 (by decide) (fun hk1 => ?_) (fun hk1 => ?_)
  · exact KH (Or.inl hk1)
  · refine lv_iload_n hx hb dX2_request_11 rfl (lv_at hl 0 rfl) ?_
    refine lv_iconst (v := (nI 2)) hx hb dX2_request_12 (by decide) ?_
    refine q_icmp_ne (tgt := 33) hx hb (by omega) (by omega) dX2_request_13 (by decide) (fun hk2 => ?_) (fun hk2 => ?_)
    · have hkk : ¬ (q_wh L a = 1 ∨ q_wh L a = 2) := fun q => by rcases q with q | q; exact hk1 q; exact hk2 q
      refine lv_aload_n hx hb dX2_request_33 rfl (lv_at hl 1 rfl) ?_
      refine lv_dup hx hb dX2_request_34 rfl ?_
      refine va_get (D := (dC, dI)) (ci := 1) (v := .int mi) (C := RX2) (T := TX2) (N := 10) hx hb hts in_X2 hown hK hP 0 rfl rfl 8 (by decide) (hts _ q169) (fun _ h9 => h9) rfl dX2_request_35 ?_
      refine lv_iconst (v := (nI 1)) hx hb dX2_request_38 (by decide) ?_
      refine lv_iadd hx hb dX2_request_39 ?_
      refine va_put (D := (dC, dI)) (ci := 1) (v := .int (mi + (nI 1))) (ty := .int) (C := RX2) (T := TX2) (N := 10) hx hb hts in_X2 tyX2 tyX2_ok nmX2 hown hK hP hD hS 0 rfl rfl 8 (by decide) (hts _ q169) (fun _ h9 => h9) rfl (by decide +kernel) rfl rfl (Nat.le_of_ble_eq_true rfl) dX2_request_40 (fun H locs hP hD hS => ?_)
      have hP : va_P (dC, dI) vwCl (mw ad ci cz li ma wo di ba (nI cp) (nI tg) hi (mi + (nI 1)) go) H := hP
      have hD : va_D A (mw ad ci cz li ma wo di ba (nI cp) (nI tg) hi (mi + (nI 1)) go) := hD
      refine lv_iload_n hx hb dX2_request_43 rfl (lv_at hl 0 rfl) ?_
      refine lv_iconst (v := (nI 3)) hx hb dX2_request_44 (by decide) ?_
      refine q_icmp_ne (tgt := 110) hx hb (by omega) (by omega) dX2_request_45 (by decide) (fun hk3 => ?_) (fun hk3 => ?_)
      · refine lv_iload_n hx hb dX2_request_110 rfl (lv_at hl 0 rfl) ?_
        refine lv_iconst (v := (nI 4)) hx hb dX2_request_111 (by decide) ?_
        refine q_icmp_ne (tgt := 167) hx hb (by omega) (by omega) dX2_request_112 (by decide) (fun hk4 => ?_) (fun hk4 => ?_)
        · have h0 : q_wh L a = 0 := by omega
          have etg : (q_tg cp L tg (q_wh L a)) = tg := by rw [h0]; rfl
          exact KT hkk _ _ ls (by rw [etg]; exact hP) (by rw [etg]; exact hD) hS (lv_sub hl [0, 1, 2] rfl)
        · have h49 := q_rq4 hI hk4
          refine lv_aload_n hx hb dX2_request_115 rfl (lv_at hl 1 rfl) ?_
          refine va_get (D := (dC, dI)) (ci := 1) (v := .ref (ad 2)) (C := RX2) (T := TX2) (N := 10) hx hb hts in_X2 hown hK hP 0 rfl rfl 2 (by decide) (hts _ q163) (fun _ h9 => h9) rfl dX2_request_116 ?_
          refine lv_iconst (v := (nI 3)) hx hb dX2_request_119 (by decide) ?_
          refine q_iald (v := (nI ((L 3).length))) hx hb hK hP 2 0 rfl rfl (by decide) (by decide) (hR.1 3 (by decide) (by decide)) dX2_request_120 ?_
          refine lv_aload_n hx hb dX2_request_121 rfl (lv_at hl 1 rfl) ?_
          refine va_get (D := (dC, dI)) (ci := 1) (v := .ref (ad 2)) (C := RX2) (T := TX2) (N := 10) hx hb hts in_X2 hown hK hP 0 rfl rfl 2 (by decide) (hts _ q163) (fun _ h9 => h9) rfl dX2_request_122 ?_
          refine lv_iconst (v := (nI 4)) hx hb dX2_request_125 (by decide) ?_
          refine q_iald (v := (nI ((L 4).length))) hx hb hK hP 2 0 rfl rfl (by decide) (by decide) (hR.1 4 (by decide) (by decide)) dX2_request_126 ?_
          have hdv : (L 3).length / (L 4).length ≤ 64 := Nat.le_trans (Nat.div_le_self _ _) h3
          have hmx : max 1 ((L 3).length / (L 4).length) ≤ 64 := Nat.max_le.mpr ⟨by decide, hdv⟩
          obtain ⟨d9, ed9⟩ : ∃ d, d = max 1 ((L 3).length / (L 4).length) := ⟨_, rfl⟩
          rw [← ed9] at hmx
          obtain ⟨v9, ev9⟩ : ∃ d, d = (L 3).length / (L 4).length := ⟨_, rfl⟩
          rw [← ev9] at hdv ed9
          refine q_idiv hx hb (by omega) h49.1 (by omega) dX2_request_127 ?_
          refine q_top (y := (nI v9)) (by rw [← ev9]) ?_
          refine lv_istore_n (lv' := [(3, .int (nI v9)), (2, .int (nI (q_wh L a))), (0, .ref (ad 0)), (1, .int (nI a))]) hx hb dX2_request_128 rfl hl (by decide) rfl (fun ls hl => ?_)
          refine lv_aload_n hx hb dX2_request_129 rfl (lv_at hl 2 rfl) ?_
          refine lv_dup hx hb dX2_request_130 rfl ?_
          refine va_get (D := (dC, dI)) (ci := 1) (v := .int (nI tg)) (C := RX2) (T := TX2) (N := 10) hx hb hts in_X2 hown hK hP 0 rfl rfl 6 (by decide) (hts _ q167) (fun _ h9 => h9) rfl dX2_request_131 ?_
          refine lv_iload_n hx hb dX2_request_134 rfl (lv_at hl 0 rfl) ?_
          refine lv_iconst (v := (nI 1)) hx hb dX2_request_135 (by decide) ?_
          refine q_icmp_ge (tgt := 143) hx hb (by omega) (by omega) dX2_request_136 (by decide) (fun hd1 => ?_) (fun hd1 => ?_)
          · refine lv_iload_n hx hb dX2_request_143 rfl (lv_at hl 0 rfl) ?_
            refine q_top (y := (nI d9)) (by rw [ed9, Nat.max_eq_right hd1]) ?_
            refine lv_isub hx hb dX2_request_144 ?_
            refine va_put (D := (dC, dI)) (ci := 1) (v := .int ((nI tg) - (nI d9))) (ty := .int) (C := RX2) (T := TX2) (N := 10) hx hb hts in_X2 tyX2 tyX2_ok nmX2 hown hK hP hD hS 0 rfl rfl 6 (by decide) (hts _ q167) (fun _ h9 => h9) rfl (by decide +kernel) rfl rfl (Nat.le_of_ble_eq_true rfl) dX2_request_145 (fun H locs hP hD hS => ?_)
            have hP : va_P (dC, dI) vwCl (mw ad ci cz li ma wo di ba (nI cp) ((nI tg) - (nI d9)) hi (mi + (nI 1)) go) H := hP
            have hD : va_D A (mw ad ci cz li ma wo di ba (nI cp) ((nI tg) - (nI d9)) hi (mi + (nI 1)) go) := hD
            refine lv_aload_n hx hb dX2_request_148 rfl (lv_at hl 2 rfl) ?_
            refine lv_aload_n hx hb dX2_request_149 rfl (lv_at hl 2 rfl) ?_
            refine va_get (D := (dC, dI)) (ci := 1) (v := .int ((nI tg) - (nI d9))) (C := RX2) (T := TX2) (N := 10) hx hb hts in_X2 hown hK hP 0 rfl rfl 6 (by decide) (hts _ q167) (fun _ h9 => h9) rfl dX2_request_150 ?_
            refine lv_if_ge (tgt := 160) hx hb dX2_request_153 (by decide) (fun hge => ?_) (fun hge => ?_)
            · have hle : d9 ≤ tg := by
                rcases Nat.lt_or_ge tg d9 with q | q
                · have g1 := q_ltI.mp (pk_sneg (by omega) q)
                  have g2 := q_leI.mp hge
                  omega
                · exact q
              have etg : (q_tg cp L tg (q_wh L a)) = tg - d9 := by
                rw [hk4]
                show tg - max 1 ((L 3).length / (L 4).length) = _
                rw [← ev9, ← ed9]
              refine lv_aload_n hx hb dX2_request_160 rfl (lv_at hl 2 rfl) ?_
              refine va_get (D := (dC, dI)) (ci := 1) (v := .int ((nI tg) - (nI d9))) (C := RX2) (T := TX2) (N := 10) hx hb hts in_X2 hown hK hP 0 rfl rfl 6 (by decide) (hts _ q167) (fun _ h9 => h9) rfl dX2_request_161 ?_
              refine va_put (D := (dC, dI)) (ci := 1) (v := .int ((nI tg) - (nI d9))) (ty := .int) (C := RX2) (T := TX2) (N := 10) hx hb hts in_X2 tyX2 tyX2_ok nmX2 hown hK hP hD hS 0 rfl rfl 6 (by decide) (hts _ q167) (fun _ h9 => h9) rfl (by decide +kernel) rfl rfl (Nat.le_of_ble_eq_true rfl) dX2_request_164 (fun H locs hP hD hS => ?_)
              have hP : va_P (dC, dI) vwCl (mw ad ci cz li ma wo di ba (nI cp) ((nI tg) - (nI d9)) hi (mi + (nI 1)) go) H := hP
              have hD : va_D A (mw ad ci cz li ma wo di ba (nI cp) ((nI tg) - (nI d9)) hi (mi + (nI 1)) go) := hD
              exact KT hkk _ _ ls (by rw [etg, ← pk_sub hle]; exact hP) (by rw [etg, ← pk_sub hle]; exact hD) hS (lv_sub hl [1, 2, 3] rfl)
            · have hle : tg < d9 := by
                rcases Nat.lt_or_ge tg d9 with q | q
                · exact q
                · exact absurd (by rw [pk_sub q]; exact nI_pos' (by omega)) hge
              have etg : (q_tg cp L tg (q_wh L a)) = 0 := by
                rw [hk4]
                show tg - max 1 ((L 3).length / (L 4).length) = 0
                rw [← ev9, ← ed9]
                omega
              refine lv_iconst (v := (nI 0)) hx hb dX2_request_156 (by decide) ?_
              refine lv_goto (tgt := 164) hx hb dX2_request_157 (by decide) ?_
              refine va_put (D := (dC, dI)) (ci := 1) (v := .int (nI 0)) (ty := .int) (C := RX2) (T := TX2) (N := 10) hx hb hts in_X2 tyX2 tyX2_ok nmX2 hown hK hP hD hS 0 rfl rfl 6 (by decide) (hts _ q167) (fun _ h9 => h9) rfl (by decide +kernel) rfl rfl (Nat.le_of_ble_eq_true rfl) dX2_request_164 (fun H locs hP hD hS => ?_)
              have hP : va_P (dC, dI) vwCl (mw ad ci cz li ma wo di ba (nI cp) (nI 0) hi (mi + (nI 1)) go) H := hP
              have hD : va_D A (mw ad ci cz li ma wo di ba (nI cp) (nI 0) hi (mi + (nI 1)) go) := hD
              exact KT hkk _ _ ls (by rw [etg]; exact hP) (by rw [etg]; exact hD) hS (lv_sub hl [1, 2, 3] rfl)
          · refine lv_iconst (v := (nI 1)) hx hb dX2_request_139 (by decide) ?_
            refine lv_goto (tgt := 144) hx hb dX2_request_140 (by decide) ?_
            refine q_top (y := (nI d9)) (by rw [ed9, Nat.max_eq_left (Nat.le_of_lt hd1)]) ?_
            refine lv_isub hx hb dX2_request_144 ?_
            refine va_put (D := (dC, dI)) (ci := 1) (v := .int ((nI tg) - (nI d9))) (ty := .int) (C := RX2) (T := TX2) (N := 10) hx hb hts in_X2 tyX2 tyX2_ok nmX2 hown hK hP hD hS 0 rfl rfl 6 (by decide) (hts _ q167) (fun _ h9 => h9) rfl (by decide +kernel) rfl rfl (Nat.le_of_ble_eq_true rfl) dX2_request_145 (fun H locs hP hD hS => ?_)
            have hP : va_P (dC, dI) vwCl (mw ad ci cz li ma wo di ba (nI cp) ((nI tg) - (nI d9)) hi (mi + (nI 1)) go) H := hP
            have hD : va_D A (mw ad ci cz li ma wo di ba (nI cp) ((nI tg) - (nI d9)) hi (mi + (nI 1)) go) := hD
            refine lv_aload_n hx hb dX2_request_148 rfl (lv_at hl 2 rfl) ?_
            refine lv_aload_n hx hb dX2_request_149 rfl (lv_at hl 2 rfl) ?_
            refine va_get (D := (dC, dI)) (ci := 1) (v := .int ((nI tg) - (nI d9))) (C := RX2) (T := TX2) (N := 10) hx hb hts in_X2 hown hK hP 0 rfl rfl 6 (by decide) (hts _ q167) (fun _ h9 => h9) rfl dX2_request_150 ?_
            refine lv_if_ge (tgt := 160) hx hb dX2_request_153 (by decide) (fun hge => ?_) (fun hge => ?_)
            · have hle : d9 ≤ tg := by
                rcases Nat.lt_or_ge tg d9 with q | q
                · have g1 := q_ltI.mp (pk_sneg (by omega) q)
                  have g2 := q_leI.mp hge
                  omega
                · exact q
              have etg : (q_tg cp L tg (q_wh L a)) = tg - d9 := by
                rw [hk4]
                show tg - max 1 ((L 3).length / (L 4).length) = _
                rw [← ev9, ← ed9]
              refine lv_aload_n hx hb dX2_request_160 rfl (lv_at hl 2 rfl) ?_
              refine va_get (D := (dC, dI)) (ci := 1) (v := .int ((nI tg) - (nI d9))) (C := RX2) (T := TX2) (N := 10) hx hb hts in_X2 hown hK hP 0 rfl rfl 6 (by decide) (hts _ q167) (fun _ h9 => h9) rfl dX2_request_161 ?_
              refine va_put (D := (dC, dI)) (ci := 1) (v := .int ((nI tg) - (nI d9))) (ty := .int) (C := RX2) (T := TX2) (N := 10) hx hb hts in_X2 tyX2 tyX2_ok nmX2 hown hK hP hD hS 0 rfl rfl 6 (by decide) (hts _ q167) (fun _ h9 => h9) rfl (by decide +kernel) rfl rfl (Nat.le_of_ble_eq_true rfl) dX2_request_164 (fun H locs hP hD hS => ?_)
              have hP : va_P (dC, dI) vwCl (mw ad ci cz li ma wo di ba (nI cp) ((nI tg) - (nI d9)) hi (mi + (nI 1)) go) H := hP
              have hD : va_D A (mw ad ci cz li ma wo di ba (nI cp) ((nI tg) - (nI d9)) hi (mi + (nI 1)) go) := hD
              exact KT hkk _ _ ls (by rw [etg, ← pk_sub hle]; exact hP) (by rw [etg, ← pk_sub hle]; exact hD) hS (lv_sub hl [1, 2, 3] rfl)
            · have hle : tg < d9 := by
                rcases Nat.lt_or_ge tg d9 with q | q
                · exact q
                · exact absurd (by rw [pk_sub q]; exact nI_pos' (by omega)) hge
              have etg : (q_tg cp L tg (q_wh L a)) = 0 := by
                rw [hk4]
                show tg - max 1 ((L 3).length / (L 4).length) = 0
                rw [← ev9, ← ed9]
                omega
              refine lv_iconst (v := (nI 0)) hx hb dX2_request_156 (by decide) ?_
              refine lv_goto (tgt := 164) hx hb dX2_request_157 (by decide) ?_
              refine va_put (D := (dC, dI)) (ci := 1) (v := .int (nI 0)) (ty := .int) (C := RX2) (T := TX2) (N := 10) hx hb hts in_X2 tyX2 tyX2_ok nmX2 hown hK hP hD hS 0 rfl rfl 6 (by decide) (hts _ q167) (fun _ h9 => h9) rfl (by decide +kernel) rfl rfl (Nat.le_of_ble_eq_true rfl) dX2_request_164 (fun H locs hP hD hS => ?_)
              have hP : va_P (dC, dI) vwCl (mw ad ci cz li ma wo di ba (nI cp) (nI 0) hi (mi + (nI 1)) go) H := hP
              have hD : va_D A (mw ad ci cz li ma wo di ba (nI cp) (nI 0) hi (mi + (nI 1)) go) := hD
              exact KT hkk _ _ ls (by rw [etg]; exact hP) (by rw [etg]; exact hD) hS (lv_sub hl [1, 2, 3] rfl)
      · have h39 := q_rq3 hI hk3
        refine lv_aload_n hx hb dX2_request_48 rfl (lv_at hl 1 rfl) ?_
        refine va_get (D := (dC, dI)) (ci := 1) (v := .ref (ad 2)) (C := RX2) (T := TX2) (N := 10) hx hb hts in_X2 hown hK hP 0 rfl rfl 2 (by decide) (hts _ q163) (fun _ h9 => h9) rfl dX2_request_49 ?_
        refine lv_iconst (v := (nI 4)) hx hb dX2_request_52 (by decide) ?_
        refine q_iald (v := (nI ((L 4).length))) hx hb hK hP 2 0 rfl rfl (by decide) (by decide) (hR.1 4 (by decide) (by decide)) dX2_request_53 ?_
        refine lv_aload_n hx hb dX2_request_54 rfl (lv_at hl 1 rfl) ?_
        refine va_get (D := (dC, dI)) (ci := 1) (v := .ref (ad 2)) (C := RX2) (T := TX2) (N := 10) hx hb hts in_X2 hown hK hP 0 rfl rfl 2 (by decide) (hts _ q163) (fun _ h9 => h9) rfl dX2_request_55 ?_
        refine lv_iconst (v := (nI 3)) hx hb dX2_request_58 (by decide) ?_
        refine q_iald (v := (nI ((L 3).length))) hx hb hK hP 2 0 rfl rfl (by decide) (by decide) (hR.1 3 (by decide) (by decide)) dX2_request_59 ?_
        have hdv : (L 4).length / (L 3).length ≤ 64 := Nat.le_trans (Nat.div_le_self _ _) h4
        have hmx : max 1 ((L 4).length / (L 3).length) ≤ 64 := Nat.max_le.mpr ⟨by decide, hdv⟩
        obtain ⟨d9, ed9⟩ : ∃ d, d = max 1 ((L 4).length / (L 3).length) := ⟨_, rfl⟩
        rw [← ed9] at hmx
        obtain ⟨v9, ev9⟩ : ∃ d, d = (L 4).length / (L 3).length := ⟨_, rfl⟩
        rw [← ev9] at hdv ed9
        refine q_idiv hx hb (by omega) h39.1 (by omega) dX2_request_60 ?_
        refine q_top (y := (nI v9)) (by rw [← ev9]) ?_
        refine lv_istore_n (lv' := [(3, .int (nI v9)), (2, .int (nI (q_wh L a))), (0, .ref (ad 0)), (1, .int (nI a))]) hx hb dX2_request_61 rfl hl (by decide) rfl (fun ls hl => ?_)
        refine lv_aload_n hx hb dX2_request_62 rfl (lv_at hl 2 rfl) ?_
        refine lv_dup hx hb dX2_request_63 rfl ?_
        refine va_get (D := (dC, dI)) (ci := 1) (v := .int (nI tg)) (C := RX2) (T := TX2) (N := 10) hx hb hts in_X2 hown hK hP 0 rfl rfl 6 (by decide) (hts _ q167) (fun _ h9 => h9) rfl dX2_request_64 ?_
        refine lv_iload_n hx hb dX2_request_67 rfl (lv_at hl 0 rfl) ?_
        refine lv_iconst (v := (nI 1)) hx hb dX2_request_68 (by decide) ?_
        refine q_icmp_ge (tgt := 76) hx hb (by omega) (by omega) dX2_request_69 (by decide) (fun hd1 => ?_) (fun hd1 => ?_)
        · refine lv_iload_n hx hb dX2_request_76 rfl (lv_at hl 0 rfl) ?_
          refine q_top (y := (nI d9)) (by rw [ed9, Nat.max_eq_right hd1]) ?_
          refine q_iadd hx hb dX2_request_77 ?_
          refine va_put (D := (dC, dI)) (ci := 1) (v := .int (nI (tg + d9))) (ty := .int) (C := RX2) (T := TX2) (N := 10) hx hb hts in_X2 tyX2 tyX2_ok nmX2 hown hK hP hD hS 0 rfl rfl 6 (by decide) (hts _ q167) (fun _ h9 => h9) rfl (by decide +kernel) rfl rfl (Nat.le_of_ble_eq_true rfl) dX2_request_78 (fun H locs hP hD hS => ?_)
          have hP : va_P (dC, dI) vwCl (mw ad ci cz li ma wo di ba (nI cp) (nI (tg + d9)) hi (mi + (nI 1)) go) H := hP
          have hD : va_D A (mw ad ci cz li ma wo di ba (nI cp) (nI (tg + d9)) hi (mi + (nI 1)) go) := hD
          refine lv_aload_n hx hb dX2_request_81 rfl (lv_at hl 2 rfl) ?_
          refine lv_aload_n hx hb dX2_request_82 rfl (lv_at hl 2 rfl) ?_
          refine va_get (D := (dC, dI)) (ci := 1) (v := .int (nI (tg + d9))) (C := RX2) (T := TX2) (N := 10) hx hb hts in_X2 hown hK hP 0 rfl rfl 6 (by decide) (hts _ q167) (fun _ h9 => h9) rfl dX2_request_83 ?_
          refine lv_aload_n hx hb dX2_request_86 rfl (lv_at hl 2 rfl) ?_
          refine va_get (D := (dC, dI)) (ci := 1) (v := .int (nI cp)) (C := RX2) (T := TX2) (N := 10) hx hb hts in_X2 hown hK hP 0 rfl rfl 0 (by decide) (hts _ q161) (fun _ h9 => h9) rfl dX2_request_87 ?_
          refine q_icmp_le (tgt := 100) hx hb (by omega) (by omega) dX2_request_90 (by decide) (fun hle => ?_) (fun hle => ?_)
          · have etg : (q_tg cp L tg (q_wh L a)) = tg + d9 := by
              rw [hk3]
              show min cp (tg + max 1 ((L 4).length / (L 3).length)) = _
              rw [← ev9, ← ed9]
              exact Nat.min_eq_right hle
            refine lv_aload_n hx hb dX2_request_100 rfl (lv_at hl 2 rfl) ?_
            refine va_get (D := (dC, dI)) (ci := 1) (v := .int (nI (tg + d9))) (C := RX2) (T := TX2) (N := 10) hx hb hts in_X2 hown hK hP 0 rfl rfl 6 (by decide) (hts _ q167) (fun _ h9 => h9) rfl dX2_request_101 ?_
            refine va_put (D := (dC, dI)) (ci := 1) (v := .int (nI (tg + d9))) (ty := .int) (C := RX2) (T := TX2) (N := 10) hx hb hts in_X2 tyX2 tyX2_ok nmX2 hown hK hP hD hS 0 rfl rfl 6 (by decide) (hts _ q167) (fun _ h9 => h9) rfl (by decide +kernel) rfl rfl (Nat.le_of_ble_eq_true rfl) dX2_request_104 (fun H locs hP hD hS => ?_)
            have hP : va_P (dC, dI) vwCl (mw ad ci cz li ma wo di ba (nI cp) (nI (tg + d9)) hi (mi + (nI 1)) go) H := hP
            have hD : va_D A (mw ad ci cz li ma wo di ba (nI cp) (nI (tg + d9)) hi (mi + (nI 1)) go) := hD
            refine lv_goto (tgt := 167) hx hb dX2_request_107 (by decide) ?_
            exact KT hkk _ _ ls (by rw [etg]; exact hP) (by rw [etg]; exact hD) hS (lv_sub hl [1, 2, 3] rfl)
          · have etg : (q_tg cp L tg (q_wh L a)) = cp := by
              rw [hk3]
              show min cp (tg + max 1 ((L 4).length / (L 3).length)) = _
              rw [← ev9, ← ed9]
              exact Nat.min_eq_left (Nat.le_of_lt hle)
            refine lv_aload_n hx hb dX2_request_93 rfl (lv_at hl 2 rfl) ?_
            refine va_get (D := (dC, dI)) (ci := 1) (v := .int (nI cp)) (C := RX2) (T := TX2) (N := 10) hx hb hts in_X2 hown hK hP 0 rfl rfl 0 (by decide) (hts _ q161) (fun _ h9 => h9) rfl dX2_request_94 ?_
            refine lv_goto (tgt := 104) hx hb dX2_request_97 (by decide) ?_
            refine va_put (D := (dC, dI)) (ci := 1) (v := .int (nI cp)) (ty := .int) (C := RX2) (T := TX2) (N := 10) hx hb hts in_X2 tyX2 tyX2_ok nmX2 hown hK hP hD hS 0 rfl rfl 6 (by decide) (hts _ q167) (fun _ h9 => h9) rfl (by decide +kernel) rfl rfl (Nat.le_of_ble_eq_true rfl) dX2_request_104 (fun H locs hP hD hS => ?_)
            have hP : va_P (dC, dI) vwCl (mw ad ci cz li ma wo di ba (nI cp) (nI cp) hi (mi + (nI 1)) go) H := hP
            have hD : va_D A (mw ad ci cz li ma wo di ba (nI cp) (nI cp) hi (mi + (nI 1)) go) := hD
            refine lv_goto (tgt := 167) hx hb dX2_request_107 (by decide) ?_
            exact KT hkk _ _ ls (by rw [etg]; exact hP) (by rw [etg]; exact hD) hS (lv_sub hl [1, 2, 3] rfl)
        · refine lv_iconst (v := (nI 1)) hx hb dX2_request_72 (by decide) ?_
          refine lv_goto (tgt := 77) hx hb dX2_request_73 (by decide) ?_
          refine q_top (y := (nI d9)) (by rw [ed9, Nat.max_eq_left (Nat.le_of_lt hd1)]) ?_
          refine q_iadd hx hb dX2_request_77 ?_
          refine va_put (D := (dC, dI)) (ci := 1) (v := .int (nI (tg + d9))) (ty := .int) (C := RX2) (T := TX2) (N := 10) hx hb hts in_X2 tyX2 tyX2_ok nmX2 hown hK hP hD hS 0 rfl rfl 6 (by decide) (hts _ q167) (fun _ h9 => h9) rfl (by decide +kernel) rfl rfl (Nat.le_of_ble_eq_true rfl) dX2_request_78 (fun H locs hP hD hS => ?_)
          have hP : va_P (dC, dI) vwCl (mw ad ci cz li ma wo di ba (nI cp) (nI (tg + d9)) hi (mi + (nI 1)) go) H := hP
          have hD : va_D A (mw ad ci cz li ma wo di ba (nI cp) (nI (tg + d9)) hi (mi + (nI 1)) go) := hD
          refine lv_aload_n hx hb dX2_request_81 rfl (lv_at hl 2 rfl) ?_
          refine lv_aload_n hx hb dX2_request_82 rfl (lv_at hl 2 rfl) ?_
          refine va_get (D := (dC, dI)) (ci := 1) (v := .int (nI (tg + d9))) (C := RX2) (T := TX2) (N := 10) hx hb hts in_X2 hown hK hP 0 rfl rfl 6 (by decide) (hts _ q167) (fun _ h9 => h9) rfl dX2_request_83 ?_
          refine lv_aload_n hx hb dX2_request_86 rfl (lv_at hl 2 rfl) ?_
          refine va_get (D := (dC, dI)) (ci := 1) (v := .int (nI cp)) (C := RX2) (T := TX2) (N := 10) hx hb hts in_X2 hown hK hP 0 rfl rfl 0 (by decide) (hts _ q161) (fun _ h9 => h9) rfl dX2_request_87 ?_
          refine q_icmp_le (tgt := 100) hx hb (by omega) (by omega) dX2_request_90 (by decide) (fun hle => ?_) (fun hle => ?_)
          · have etg : (q_tg cp L tg (q_wh L a)) = tg + d9 := by
              rw [hk3]
              show min cp (tg + max 1 ((L 4).length / (L 3).length)) = _
              rw [← ev9, ← ed9]
              exact Nat.min_eq_right hle
            refine lv_aload_n hx hb dX2_request_100 rfl (lv_at hl 2 rfl) ?_
            refine va_get (D := (dC, dI)) (ci := 1) (v := .int (nI (tg + d9))) (C := RX2) (T := TX2) (N := 10) hx hb hts in_X2 hown hK hP 0 rfl rfl 6 (by decide) (hts _ q167) (fun _ h9 => h9) rfl dX2_request_101 ?_
            refine va_put (D := (dC, dI)) (ci := 1) (v := .int (nI (tg + d9))) (ty := .int) (C := RX2) (T := TX2) (N := 10) hx hb hts in_X2 tyX2 tyX2_ok nmX2 hown hK hP hD hS 0 rfl rfl 6 (by decide) (hts _ q167) (fun _ h9 => h9) rfl (by decide +kernel) rfl rfl (Nat.le_of_ble_eq_true rfl) dX2_request_104 (fun H locs hP hD hS => ?_)
            have hP : va_P (dC, dI) vwCl (mw ad ci cz li ma wo di ba (nI cp) (nI (tg + d9)) hi (mi + (nI 1)) go) H := hP
            have hD : va_D A (mw ad ci cz li ma wo di ba (nI cp) (nI (tg + d9)) hi (mi + (nI 1)) go) := hD
            refine lv_goto (tgt := 167) hx hb dX2_request_107 (by decide) ?_
            exact KT hkk _ _ ls (by rw [etg]; exact hP) (by rw [etg]; exact hD) hS (lv_sub hl [1, 2, 3] rfl)
          · have etg : (q_tg cp L tg (q_wh L a)) = cp := by
              rw [hk3]
              show min cp (tg + max 1 ((L 4).length / (L 3).length)) = _
              rw [← ev9, ← ed9]
              exact Nat.min_eq_left (Nat.le_of_lt hle)
            refine lv_aload_n hx hb dX2_request_93 rfl (lv_at hl 2 rfl) ?_
            refine va_get (D := (dC, dI)) (ci := 1) (v := .int (nI cp)) (C := RX2) (T := TX2) (N := 10) hx hb hts in_X2 hown hK hP 0 rfl rfl 0 (by decide) (hts _ q161) (fun _ h9 => h9) rfl dX2_request_94 ?_
            refine lv_goto (tgt := 104) hx hb dX2_request_97 (by decide) ?_
            refine va_put (D := (dC, dI)) (ci := 1) (v := .int (nI cp)) (ty := .int) (C := RX2) (T := TX2) (N := 10) hx hb hts in_X2 tyX2 tyX2_ok nmX2 hown hK hP hD hS 0 rfl rfl 6 (by decide) (hts _ q167) (fun _ h9 => h9) rfl (by decide +kernel) rfl rfl (Nat.le_of_ble_eq_true rfl) dX2_request_104 (fun H locs hP hD hS => ?_)
            have hP : va_P (dC, dI) vwCl (mw ad ci cz li ma wo di ba (nI cp) (nI cp) hi (mi + (nI 1)) go) H := hP
            have hD : va_D A (mw ad ci cz li ma wo di ba (nI cp) (nI cp) hi (mi + (nI 1)) go) := hD
            refine lv_goto (tgt := 167) hx hb dX2_request_107 (by decide) ?_
            exact KT hkk _ _ ls (by rw [etg]; exact hP) (by rw [etg]; exact hD) hS (lv_sub hl [1, 2, 3] rfl)
    · exact KH (Or.inr hk2)
/-- read(v) -/
abbrev wsX2_read : List Cond := ws_ yX2_read cX2_read 2 (some .int)
set_option maxHeartbeats 4000000 in
set_option maxRecDepth 100000 in
theorem metX2_read (l : Launch) (dC : Nat → ClassId) (dI : Nat → Nat → Nat) (ci cz : ClassId) (ad : Nat → Nat) (sz : Nat) (li ma wo di ba : Nat → Int32) (hi mi go : Int32) {L : Nat → List Nat} {cp tg : Nat} {v : Int32} (hI : q_inv cp L di tg) (hR : m_rep L li ma) : Met l yX2_read wsX2_read ({ frames := 6, cells := 0, slots := 0, locals := 139 }) (va_Pc [.ref (ad 0), .int v] (q_Pre dC dI ci cz sz (mw ad ci cz li ma wo di ba (nI cp) (nI tg) hi mi go))) (va_Qi (fun (r : Int32) (u : m_U) => r = (q_rd cp v L wo ba di tg hi mi go).1 ∧ m_rep (q_rd cp v L wo ba di tg hi mi go).2.1 u.1 u.2) (mB dC dI ci cz (va_A (mw ad ci cz li ma wo di ba (nI cp) (nI tg) hi mi go) sz) ad ((q_rd cp v L wo ba di tg hi mi go).2.2.1) ((q_rd cp v L wo ba di tg hi mi go).2.2.2.2.1) ((q_rd cp v L wo ba di tg hi mi go).2.2.2.1) (nI cp) (nI (q_rd cp v L wo ba di tg hi mi go).2.2.2.2.2.1) ((q_rd cp v L wo ba di tg hi mi go).2.2.2.2.2.2.1) ((q_rd cp v L wo ba di tg hi mi go).2.2.2.2.2.2.2.1) ((q_rd cp v L wo ba di tg hi mi go).2.2.2.2.2.2.2.2)) (va_A (mw ad ci cz li ma wo di ba (nI cp) (nI tg) hi mi go) sz)) 0 0 (va_A (mw ad ci cz li ma wo di ba (nI cp) (nI tg) hi mi go) sz) := by
  refine Met.ofW (cc := cX2_read) (maxL := 2) (ret := (some .int)) (by decide) rfl ?_
  intro p e s m args below meth c s₁ B hml hv
  obtain ⟨rfl, hsz, hP, hK, hD0⟩ := hv
  have hx := B.exec
  have hb := B.bytes
  have hr := B.returns
  have hts := atoms_spec (ws := wsX2_read) B.pre
  have hts : ∀ w ∈ lw_all, w.before _ s = true := fun w h => hts w (List.mem_cons_of_mem _ h)
  have hown : s.vm.findClass RX2 = some m.cls := findClass_of_methodNamed B.named
  have hlocks := B.notSynchronized
  subst hsz
  have hD := hD0.self (sz := s.heap.size)
  generalize hAe : va_A (mw ad ci cz li ma wo di ba (nI cp) (nI tg) hi mi go) s.heap.size = A at hD ⊢
  have hA : ∀ q : Nat, s.heap.size ≤ q → A q := fun q h => by rw [← hAe]; exact Or.inr h
  have hS : va_S A s.heap s.heap [] := va_S.rf
  have hP : va_P (dC, dI) vwCl (mw ad ci cz li ma wo di ba (nI cp) (nI tg) hi mi go) s.heap := hP
  have hl := lv_entry ([.ref (ad 0), .int v]) (n := 2) (Nat.le_of_ble_eq_true rfl)
  rw [lg_entry_eq]
  generalize (lg_sl ([.ref (ad 0), .int v]) ++ List.replicate (2 - (lg_sl ([.ref (ad 0), .int v])).length) Slot.unset).toArray = ls at hl ⊢
  have hl : lv_has ls 2 [(0, .ref (ad 0)), (1, .int v)] := hl
  refine lv_iload_n hx hb dX2_read_0 rfl (lv_at hl 1 rfl) ?_
  refine va_calli (va_runS (As := [.int v]) (rest := []) ⟨hx, hb, hml, hown, hts⟩ (metX2_isAddress l v) (va_cwS 1 hts (lw_S q204 q205 q17 q206) rfl rfl rfl (by decide +kernel) ⟨Nat.le_of_ble_eq_true rfl, Nat.le_of_ble_eq_true rfl⟩) ⟨fun a U g mk q => q, fun U hU hW => ⟨rfl, trivial⟩⟩ rfl rfl hl.1 rfl (lv_room (Nat.le_of_ble_eq_true rfl)) dX2_read_1 ⟨Nat.le_of_ble_eq_true rfl, Nat.le_of_ble_eq_true rfl⟩) hS (fun q _ h => h.elim) (fun q h => h.elim) (fun r0 u t H1 locs ht hvm hw hB hzq hkq hS => ?_)
  have hP : va_P (dC, dI) vwCl (mw ad ci cz li ma wo di ba (nI cp) (nI tg) hi mi go) H1 := hP.kept (fun k q hq => hkq q.1 ((hP k q hq).lt) (fun h => h))
  generalize H1 = H at hP hS ⊢
  rcases hw with ⟨e0, j, hj, ej⟩ | ⟨e0, hj⟩
  · subst e0
    subst ej
    have e9 := q_rd_in (cp := cp) (L := L) (wo := wo) (ba := ba) (di := di) (tg := tg) (hi := hi) (mi := mi) (go := go) hj
    refine q_if_ne (tgt := 9) hx hb (by decide) dX2_read_4 (by decide) (fun _ => ?_) (fun q => absurd q (by decide))
    refine lv_aload_n hx hb dX2_read_9 rfl (lv_at hl 0 rfl) ?_
    refine lv_iload_n hx hb dX2_read_10 rfl (lv_at hl 1 rfl) ?_
    have hFc := va_free (wc := (mw ad ci cz li ma wo di ba (nI cp) (nI tg) hi mi go)) hD hS hA [0, 1, 2, 3, 4, 5] rfl
    refine va_callv (va_runV (As := [.int (nI j)]) (rest := []) ⟨hx, hb, hml, hown, hts⟩ (metX2_request l dC dI ci cz ad H.size li ma wo di ba hi mi go (a := j) hI hR hj) (cwV 1 hts (lw_V q207 q209 qs7 q17 q210) rfl rfl rfl (by decide +kernel) ⟨Nat.le_of_ble_eq_true rfl, Nat.le_of_ble_eq_true rfl⟩) ⟨q_blind, va_recv hK hP (ci := 1) (q0 := 0) rfl rfl, fun U hU hW => q_ent hP hK hD hU hW⟩ rfl rfl hl.1 rfl (lv_room (Nat.le_of_ble_eq_true rfl)) dX2_read_11 ⟨Nat.le_of_ble_eq_true rfl, Nat.le_of_ble_eq_true rfl⟩) hS (fun q _ h => hFc q h) hFc (fun  u t H1 locs ht hvm hw hB hzq hkq hS => ?_)
    obtain ⟨li1, ma1⟩ := u
    obtain ⟨hP1, hK1, hD1⟩ := hB
    rw [ht] at hP1
    have hP : va_P (dC, dI) vwCl (mw ad ci cz li1 ma1 ((q_rq cp j L wo ba di tg hi mi go).2.1) ((q_rq cp j L wo ba di tg hi mi go).2.2.2.1) ((q_rq cp j L wo ba di tg hi mi go).2.2.1) (nI cp) (nI (q_rq cp j L wo ba di tg hi mi go).2.2.2.2.1) ((q_rq cp j L wo ba di tg hi mi go).2.2.2.2.2.1) ((q_rq cp j L wo ba di tg hi mi go).2.2.2.2.2.2.1) ((q_rq cp j L wo ba di tg hi mi go).2.2.2.2.2.2.2)) H1 := hP1
    have hD : va_D A (mw ad ci cz li1 ma1 ((q_rq cp j L wo ba di tg hi mi go).2.1) ((q_rq cp j L wo ba di tg hi mi go).2.2.2.1) ((q_rq cp j L wo ba di tg hi mi go).2.2.1) (nI cp) (nI (q_rq cp j L wo ba di tg hi mi go).2.2.2.2.1) ((q_rq cp j L wo ba di tg hi mi go).2.2.2.2.2.1) ((q_rq cp j L wo ba di tg hi mi go).2.2.2.2.2.2.1) ((q_rq cp j L wo ba di tg hi mi go).2.2.2.2.2.2.2)) := hD1.weaken (fun k q _ h => hFc q.1 h)
    have hw : m_rep (q_rq cp j L wo ba di tg hi mi go).1 li1 ma1 := hw
    generalize H1 = H at hP hS ⊢
    refine lv_aload_n hx hb dX2_read_14 rfl (lv_at hl 0 rfl) ?_
    refine va_get (D := (dC, dI)) (ci := 1) (v := .ref (ad 4)) (C := RX2) (T := TX2) (N := 10) hx hb hts in_X2 hown hK hP 0 rfl rfl 4 (by decide) (hts _ q165) (fun _ h9 => h9) rfl dX2_read_15 ?_
    refine lv_iload_n hx hb dX2_read_18 rfl (lv_at hl 1 rfl) ?_
    refine q_iald (v := (((q_rq cp j L wo ba di tg hi mi go).2.1) j)) hx hb hK hP 4 0 rfl rfl (by omega) (by decide) rfl dX2_read_19 ?_
    exact W.iret (v := (((q_rq cp j L wo ba di tg hi mi go).2.1) j)) hx hb hr (fun t ht hW => ⟨⟨(((q_rq cp j L wo ba di tg hi mi go).2.1) j), (li1, ma1), rfl, ⟨by rw [e9], by rw [e9]; exact hw⟩, by rw [ht]; exact (by rw [e9]; exact hP), va_K.moved hW.alike hK, (by rw [e9]; exact hD)⟩, hS.F ht⟩) hS.2.2 dX2_read_20
  · subst e0
    have e9 := q_rd_out (cp := cp) (L := L) (wo := wo) (ba := ba) (di := di) (tg := tg) (hi := hi) (mi := mi) (go := go) hj
    refine q_if_ne (tgt := 9) hx hb (by decide) dX2_read_4 (by decide) (fun q => absurd q (by decide)) (fun _ => ?_)
    refine lv_iconst (v := (nI 0)) hx hb dX2_read_7 (by decide) ?_
    exact W.iret (v := (nI 0)) hx hb hr (fun t ht hW => ⟨⟨(nI 0), (li, ma), rfl, ⟨by rw [e9], by rw [e9]; exact hR⟩, by rw [ht]; exact (by rw [e9]; exact hP), va_K.moved hW.alike hK, (by rw [e9]; exact hD)⟩, hS.F ht⟩) hS.2.2 dX2_read_8
/-- write(v, x) -/
abbrev wsX2_write : List Cond := ws_ yX2_write cX2_write 3 (some .boolean)
set_option maxHeartbeats 4000000 in
set_option maxRecDepth 100000 in
theorem metX2_write (l : Launch) (dC : Nat → ClassId) (dI : Nat → Nat → Nat) (ci cz : ClassId) (ad : Nat → Nat) (sz : Nat) (li ma wo di ba : Nat → Int32) (hi mi go : Int32) {L : Nat → List Nat} {cp tg : Nat} {v x : Int32} (hI : q_inv cp L di tg) (hR : m_rep L li ma) : Met l yX2_write wsX2_write ({ frames := 6, cells := 0, slots := 0, locals := 139 }) (va_Pc [.ref (ad 0), .int v, .int x] (q_Pre dC dI ci cz sz (mw ad ci cz li ma wo di ba (nI cp) (nI tg) hi mi go))) (va_Qi (fun (r : Int32) (u : m_U) => r = (q_wr cp v x L wo ba di tg hi mi go).1 ∧ m_rep (q_wr cp v x L wo ba di tg hi mi go).2.1 u.1 u.2) (mB dC dI ci cz (va_A (mw ad ci cz li ma wo di ba (nI cp) (nI tg) hi mi go) sz) ad ((q_wr cp v x L wo ba di tg hi mi go).2.2.1) ((q_wr cp v x L wo ba di tg hi mi go).2.2.2.2.1) ((q_wr cp v x L wo ba di tg hi mi go).2.2.2.1) (nI cp) (nI (q_wr cp v x L wo ba di tg hi mi go).2.2.2.2.2.1) ((q_wr cp v x L wo ba di tg hi mi go).2.2.2.2.2.2.1) ((q_wr cp v x L wo ba di tg hi mi go).2.2.2.2.2.2.2.1) ((q_wr cp v x L wo ba di tg hi mi go).2.2.2.2.2.2.2.2)) (va_A (mw ad ci cz li ma wo di ba (nI cp) (nI tg) hi mi go) sz)) 0 0 (va_A (mw ad ci cz li ma wo di ba (nI cp) (nI tg) hi mi go) sz) := by
  refine Met.ofW (cc := cX2_write) (maxL := 3) (ret := (some .boolean)) (by decide) rfl ?_
  intro p e s m args below meth c s₁ B hml hv
  obtain ⟨rfl, hsz, hP, hK, hD0⟩ := hv
  have hx := B.exec
  have hb := B.bytes
  have hr := B.returns
  have hts := atoms_spec (ws := wsX2_write) B.pre
  have hts : ∀ w ∈ lw_all, w.before _ s = true := fun w h => hts w (List.mem_cons_of_mem _ h)
  have hown : s.vm.findClass RX2 = some m.cls := findClass_of_methodNamed B.named
  have hlocks := B.notSynchronized
  subst hsz
  have hD := hD0.self (sz := s.heap.size)
  generalize hAe : va_A (mw ad ci cz li ma wo di ba (nI cp) (nI tg) hi mi go) s.heap.size = A at hD ⊢
  have hA : ∀ q : Nat, s.heap.size ≤ q → A q := fun q h => by rw [← hAe]; exact Or.inr h
  have hS : va_S A s.heap s.heap [] := va_S.rf
  have hP : va_P (dC, dI) vwCl (mw ad ci cz li ma wo di ba (nI cp) (nI tg) hi mi go) s.heap := hP
  have hl := lv_entry ([.ref (ad 0), .int v, .int x]) (n := 3) (Nat.le_of_ble_eq_true rfl)
  rw [lg_entry_eq]
  generalize (lg_sl ([.ref (ad 0), .int v, .int x]) ++ List.replicate (3 - (lg_sl ([.ref (ad 0), .int v, .int x])).length) Slot.unset).toArray = ls at hl ⊢
  have hl : lv_has ls 3 [(0, .ref (ad 0)), (1, .int v), (2, .int x)] := hl
  refine lv_iload_n hx hb dX2_write_0 rfl (lv_at hl 1 rfl) ?_
  refine va_calli (va_runS (As := [.int v]) (rest := []) ⟨hx, hb, hml, hown, hts⟩ (metX2_isAddress l v) (va_cwS 1 hts (lw_S q204 q205 q17 q206) rfl rfl rfl (by decide +kernel) ⟨Nat.le_of_ble_eq_true rfl, Nat.le_of_ble_eq_true rfl⟩) ⟨fun a U g mk q => q, fun U hU hW => ⟨rfl, trivial⟩⟩ rfl rfl hl.1 rfl (lv_room (Nat.le_of_ble_eq_true rfl)) dX2_write_1 ⟨Nat.le_of_ble_eq_true rfl, Nat.le_of_ble_eq_true rfl⟩) hS (fun q _ h => h.elim) (fun q h => h.elim) (fun r0 u t H1 locs ht hvm hw hB hzq hkq hS => ?_)
  have hP : va_P (dC, dI) vwCl (mw ad ci cz li ma wo di ba (nI cp) (nI tg) hi mi go) H1 := hP.kept (fun k q hq => hkq q.1 ((hP k q hq).lt) (fun h => h))
  generalize H1 = H at hP hS ⊢
  rcases hw with ⟨e0, j, hj, ej⟩ | ⟨e0, hj⟩
  · subst e0
    subst ej
    have e9 := q_wr_in (cp := cp) (x := x) (L := L) (wo := wo) (ba := ba) (di := di) (tg := tg) (hi := hi) (mi := mi) (go := go) hj
    refine q_if_ne (tgt := 9) hx hb (by decide) dX2_write_4 (by decide) (fun _ => ?_) (fun q => absurd q (by decide))
    refine lv_aload_n hx hb dX2_write_9 rfl (lv_at hl 0 rfl) ?_
    refine lv_iload_n hx hb dX2_write_10 rfl (lv_at hl 1 rfl) ?_
    have hFc := va_free (wc := (mw ad ci cz li ma wo di ba (nI cp) (nI tg) hi mi go)) hD hS hA [0, 1, 2, 3, 4, 5] rfl
    refine va_callv (va_runV (As := [.int (nI j)]) (rest := []) ⟨hx, hb, hml, hown, hts⟩ (metX2_request l dC dI ci cz ad H.size li ma wo di ba hi mi go (a := j) hI hR hj) (cwV 1 hts (lw_V q207 q209 qs7 q17 q210) rfl rfl rfl (by decide +kernel) ⟨Nat.le_of_ble_eq_true rfl, Nat.le_of_ble_eq_true rfl⟩) ⟨q_blind, va_recv hK hP (ci := 1) (q0 := 0) rfl rfl, fun U hU hW => q_ent hP hK hD hU hW⟩ rfl rfl hl.1 rfl (lv_room (Nat.le_of_ble_eq_true rfl)) dX2_write_11 ⟨Nat.le_of_ble_eq_true rfl, Nat.le_of_ble_eq_true rfl⟩) hS (fun q _ h => hFc q h) hFc (fun  u t H1 locs ht hvm hw hB hzq hkq hS => ?_)
    obtain ⟨li1, ma1⟩ := u
    obtain ⟨hP1, hK1, hD1⟩ := hB
    rw [ht] at hP1
    have hP : va_P (dC, dI) vwCl (mw ad ci cz li1 ma1 ((q_rq cp j L wo ba di tg hi mi go).2.1) ((q_rq cp j L wo ba di tg hi mi go).2.2.2.1) ((q_rq cp j L wo ba di tg hi mi go).2.2.1) (nI cp) (nI (q_rq cp j L wo ba di tg hi mi go).2.2.2.2.1) ((q_rq cp j L wo ba di tg hi mi go).2.2.2.2.2.1) ((q_rq cp j L wo ba di tg hi mi go).2.2.2.2.2.2.1) ((q_rq cp j L wo ba di tg hi mi go).2.2.2.2.2.2.2)) H1 := hP1
    have hD : va_D A (mw ad ci cz li1 ma1 ((q_rq cp j L wo ba di tg hi mi go).2.1) ((q_rq cp j L wo ba di tg hi mi go).2.2.2.1) ((q_rq cp j L wo ba di tg hi mi go).2.2.1) (nI cp) (nI (q_rq cp j L wo ba di tg hi mi go).2.2.2.2.1) ((q_rq cp j L wo ba di tg hi mi go).2.2.2.2.2.1) ((q_rq cp j L wo ba di tg hi mi go).2.2.2.2.2.2.1) ((q_rq cp j L wo ba di tg hi mi go).2.2.2.2.2.2.2)) := hD1.weaken (fun k q _ h => hFc q.1 h)
    have hw : m_rep (q_rq cp j L wo ba di tg hi mi go).1 li1 ma1 := hw
    generalize H1 = H at hP hS ⊢
    refine lv_aload_n hx hb dX2_write_14 rfl (lv_at hl 0 rfl) ?_
    refine va_get (D := (dC, dI)) (ci := 1) (v := .ref (ad 4)) (C := RX2) (T := TX2) (N := 10) hx hb hts in_X2 hown hK hP 0 rfl rfl 4 (by decide) (hts _ q165) (fun _ h9 => h9) rfl dX2_write_15 ?_
    refine lv_iload_n hx hb dX2_write_18 rfl (lv_at hl 1 rfl) ?_
    refine lv_iload_n hx hb dX2_write_19 rfl (lv_at hl 2 rfl) ?_
    refine q_iast (g := (upd ((q_rq cp j L wo ba di tg hi mi go).2.1) j x)) hx hb hK hP hD hS 4 0 rfl rfl (by omega) (by decide) rfl dX2_write_20 (fun H locs hP hD hS => ?_)
    have hP : va_P (dC, dI) vwCl (mw ad ci cz li1 ma1 (upd ((q_rq cp j L wo ba di tg hi mi go).2.1) j x) ((q_rq cp j L wo ba di tg hi mi go).2.2.2.1) ((q_rq cp j L wo ba di tg hi mi go).2.2.1) (nI cp) (nI (q_rq cp j L wo ba di tg hi mi go).2.2.2.2.1) ((q_rq cp j L wo ba di tg hi mi go).2.2.2.2.2.1) ((q_rq cp j L wo ba di tg hi mi go).2.2.2.2.2.2.1) ((q_rq cp j L wo ba di tg hi mi go).2.2.2.2.2.2.2)) H := hP
    have hD : va_D A (mw ad ci cz li1 ma1 (upd ((q_rq cp j L wo ba di tg hi mi go).2.1) j x) ((q_rq cp j L wo ba di tg hi mi go).2.2.2.1) ((q_rq cp j L wo ba di tg hi mi go).2.2.1) (nI cp) (nI (q_rq cp j L wo ba di tg hi mi go).2.2.2.2.1) ((q_rq cp j L wo ba di tg hi mi go).2.2.2.2.2.1) ((q_rq cp j L wo ba di tg hi mi go).2.2.2.2.2.2.1) ((q_rq cp j L wo ba di tg hi mi go).2.2.2.2.2.2.2)) := hD
    refine lv_aload_n hx hb dX2_write_21 rfl (lv_at hl 0 rfl) ?_
    refine va_get (D := (dC, dI)) (ci := 1) (v := .ref (ad 5)) (C := RX2) (T := TX2) (N := 10) hx hb hts in_X2 hown hK hP 0 rfl rfl 5 (by decide) (hts _ q166) (fun _ h9 => h9) rfl dX2_write_22 ?_
    refine lv_iload_n hx hb dX2_write_25 rfl (lv_at hl 1 rfl) ?_
    refine lv_iconst (v := (nI 1)) hx hb dX2_write_26 (by decide) ?_
    refine q_zast (g := (upd ((q_rq cp j L wo ba di tg hi mi go).2.2.2.1) j (nI 1))) hx hb hK hP hD hS 5 1 rfl rfl (by omega) (by decide) (by decide) rfl dX2_write_27 (fun H locs hP hD hS => ?_)
    have hP : va_P (dC, dI) vwCl (mw ad ci cz li1 ma1 (upd ((q_rq cp j L wo ba di tg hi mi go).2.1) j x) (upd ((q_rq cp j L wo ba di tg hi mi go).2.2.2.1) j (nI 1)) ((q_rq cp j L wo ba di tg hi mi go).2.2.1) (nI cp) (nI (q_rq cp j L wo ba di tg hi mi go).2.2.2.2.1) ((q_rq cp j L wo ba di tg hi mi go).2.2.2.2.2.1) ((q_rq cp j L wo ba di tg hi mi go).2.2.2.2.2.2.1) ((q_rq cp j L wo ba di tg hi mi go).2.2.2.2.2.2.2)) H := hP
    have hD : va_D A (mw ad ci cz li1 ma1 (upd ((q_rq cp j L wo ba di tg hi mi go).2.1) j x) (upd ((q_rq cp j L wo ba di tg hi mi go).2.2.2.1) j (nI 1)) ((q_rq cp j L wo ba di tg hi mi go).2.2.1) (nI cp) (nI (q_rq cp j L wo ba di tg hi mi go).2.2.2.2.1) ((q_rq cp j L wo ba di tg hi mi go).2.2.2.2.2.1) ((q_rq cp j L wo ba di tg hi mi go).2.2.2.2.2.2.1) ((q_rq cp j L wo ba di tg hi mi go).2.2.2.2.2.2.2)) := hD
    refine lv_iconst (v := (nI 1)) hx hb dX2_write_28 (by decide) ?_
    exact W.zret (v := (nI 1)) hx hb hr rfl (fun t ht hW => ⟨⟨(nI 1), (li1, ma1), rfl, ⟨by rw [e9], by rw [e9]; exact hw⟩, by rw [ht]; exact (by rw [e9]; exact hP), va_K.moved hW.alike hK, (by rw [e9]; exact hD)⟩, hS.F ht⟩) hS.2.2 dX2_write_29
  · subst e0
    have e9 := q_wr_out (cp := cp) (x := x) (L := L) (wo := wo) (ba := ba) (di := di) (tg := tg) (hi := hi) (mi := mi) (go := go) hj
    refine q_if_ne (tgt := 9) hx hb (by decide) dX2_write_4 (by decide) (fun q => absurd q (by decide)) (fun _ => ?_)
    refine lv_iconst (v := (nI 0)) hx hb dX2_write_7 (by decide) ?_
    exact W.zret (v := (nI 0)) hx hb hr rfl (fun t ht hW => ⟨⟨(nI 0), (li, ma), rfl, ⟨by rw [e9], by rw [e9]; exact hR⟩, by rw [ht]; exact (by rw [e9]; exact hP), va_K.moved hW.alike hK, (by rw [e9]; exact hD)⟩, hS.F ht⟩) hS.2.2 dX2_write_8
end
section
/-- store(v) -/
abbrev wsX2_store : List Cond := ws_ yX2_store cX2_store 2 (some .int)
set_option maxHeartbeats 4000000 in
set_option maxRecDepth 100000 in
theorem metX2_store (l : Launch) (dC : Nat → ClassId) (dI : Nat → Nat → Nat) (ci cz : ClassId) (ad : Nat → Nat) (sz : Nat) (li ma wo di ba : Nat → Int32) (cp tg hi mi go : Int32) {v : Int32} : Met l yX2_store wsX2_store ({ frames := 1, cells := 0, slots := 0, locals := 20 }) (va_Pc [.ref (ad 0), .int v] (q_Pre dC dI ci cz sz (mw ad ci cz li ma wo di ba cp tg hi mi go))) (va_Qi (fun (r : Int32) (_ : Unit) => r = q_so ba v) (fun (_ : Unit) t => q_Post dC dI ci cz (va_A (mw ad ci cz li ma wo di ba cp tg hi mi go) sz) (mw ad ci cz li ma wo di ba cp tg hi mi go) t) (va_A (mw ad ci cz li ma wo di ba cp tg hi mi go) sz)) 0 0 (va_A (mw ad ci cz li ma wo di ba cp tg hi mi go) sz) := by
  refine Met.ofW (cc := cX2_store) (maxL := 2) (ret := (some .int)) (by decide) rfl ?_
  intro p e s m args below meth c s₁ B hml hv
  obtain ⟨rfl, hsz, hP, hK, hD0⟩ := hv
  have hx := B.exec
  have hb := B.bytes
  have hr := B.returns
  have hts := atoms_spec (ws := wsX2_store) B.pre
  have hts : ∀ w ∈ lw_all, w.before _ s = true := fun w h => hts w (List.mem_cons_of_mem _ h)
  have hown : s.vm.findClass RX2 = some m.cls := findClass_of_methodNamed B.named
  have hlocks := B.notSynchronized
  subst hsz
  have hD := hD0.self (sz := s.heap.size)
  generalize hAe : va_A (mw ad ci cz li ma wo di ba cp tg hi mi go) s.heap.size = A at hD ⊢
  have hA : ∀ q : Nat, s.heap.size ≤ q → A q := fun q h => by rw [← hAe]; exact Or.inr h
  have hS : va_S A s.heap s.heap [] := va_S.rf
  have hP : va_P (dC, dI) vwCl (mw ad ci cz li ma wo di ba cp tg hi mi go) s.heap := hP
  have hl := lv_entry ([.ref (ad 0), .int v]) (n := 2) (Nat.le_of_ble_eq_true rfl)
  rw [lg_entry_eq]
  generalize (lg_sl ([.ref (ad 0), .int v]) ++ List.replicate (2 - (lg_sl ([.ref (ad 0), .int v])).length) Slot.unset).toArray = ls at hl ⊢
  have hl : lv_has ls 2 [(0, .ref (ad 0)), (1, .int v)] := hl
  refine lv_iload_n hx hb dX2_store_0 rfl (lv_at hl 1 rfl) ?_
  refine va_calli (va_runS (As := [.int v]) (rest := []) ⟨hx, hb, hml, hown, hts⟩ (metX2_isAddress l v) (va_cwS 1 hts (lw_S q204 q205 q17 q206) rfl rfl rfl (by decide +kernel) ⟨Nat.le_of_ble_eq_true rfl, Nat.le_of_ble_eq_true rfl⟩) ⟨fun a U g mk q => q, fun U hU hW => ⟨rfl, trivial⟩⟩ rfl rfl hl.1 rfl (lv_room (Nat.le_of_ble_eq_true rfl)) dX2_store_1 ⟨Nat.le_of_ble_eq_true rfl, Nat.le_of_ble_eq_true rfl⟩) hS (fun q _ h => h.elim) (fun q h => h.elim) (fun r0 u t H1 locs ht hvm hw hB hzq hkq hS => ?_)
  have hP : va_P (dC, dI) vwCl (mw ad ci cz li ma wo di ba cp tg hi mi go) H1 := hP.kept (fun k q hq => hkq q.1 ((hP k q hq).lt) (fun h => h))
  generalize H1 = H at hP hS ⊢
  rcases hw with ⟨e0, j, hj, ej⟩ | ⟨e0, hj⟩
  · subst e0
    subst ej
    refine q_if_eq (tgt := 16) hx hb (by decide) dX2_store_4 (by decide) (fun q => absurd q (by decide)) (fun _ => ?_)
    refine lv_aload_n hx hb dX2_store_7 rfl (lv_at hl 0 rfl) ?_
    refine va_get (D := (dC, dI)) (ci := 1) (v := .ref (ad 3)) (C := RX2) (T := TX2) (N := 10) hx hb hts in_X2 hown hK hP 0 rfl rfl 3 (by decide) (hts _ q164) (fun _ h9 => h9) rfl dX2_store_8 ?_
    refine lv_iload_n hx hb dX2_store_11 rfl (lv_at hl 1 rfl) ?_
    refine q_iald (v := (ba j)) hx hb hK hP 3 0 rfl rfl (by omega) (by decide) rfl dX2_store_12 ?_
    refine lv_goto (tgt := 17) hx hb dX2_store_13 (by decide) ?_
    exact W.iret (v := (ba j)) hx hb hr (fun t ht hW => ⟨⟨(ba j), (), rfl, (by rw [q_so_in hj]), by rw [ht]; exact hP, va_K.moved hW.alike hK, hD⟩, hS.F ht⟩) hS.2.2 dX2_store_17
  · subst e0
    refine q_if_eq (tgt := 16) hx hb (by decide) dX2_store_4 (by decide) (fun _ => ?_) (fun q => absurd q (by decide))
    refine lv_iconst (v := (nI 0)) hx hb dX2_store_16 (by decide) ?_
    exact W.iret (v := (nI 0)) hx hb hr (fun t ht hW => ⟨⟨(nI 0), (), rfl, (by rw [q_so_out hj]), by rw [ht]; exact hP, va_K.moved hW.alike hK, hD⟩, hS.F ht⟩) hS.2.2 dX2_store_17
/-- isDirty(v) -/
abbrev wsX2_isDirty : List Cond := ws_ yX2_isDirty cX2_isDirty 2 (some .boolean)
set_option maxHeartbeats 4000000 in
set_option maxRecDepth 100000 in
theorem metX2_isDirty (l : Launch) (dC : Nat → ClassId) (dI : Nat → Nat → Nat) (ci cz : ClassId) (ad : Nat → Nat) (sz : Nat) (li ma wo di ba : Nat → Int32) (cp tg hi mi go : Int32) {v : Int32} : Met l yX2_isDirty wsX2_isDirty ({ frames := 1, cells := 0, slots := 0, locals := 20 }) (va_Pc [.ref (ad 0), .int v] (q_Pre dC dI ci cz sz (mw ad ci cz li ma wo di ba cp tg hi mi go))) (va_Qi (fun (r : Int32) (_ : Unit) => r = q_so (q_b01 di) v) (fun (_ : Unit) t => q_Post dC dI ci cz (va_A (mw ad ci cz li ma wo di ba cp tg hi mi go) sz) (mw ad ci cz li ma wo di ba cp tg hi mi go) t) (va_A (mw ad ci cz li ma wo di ba cp tg hi mi go) sz)) 0 0 (va_A (mw ad ci cz li ma wo di ba cp tg hi mi go) sz) := by
  refine Met.ofW (cc := cX2_isDirty) (maxL := 2) (ret := (some .boolean)) (by decide) rfl ?_
  intro p e s m args below meth c s₁ B hml hv
  obtain ⟨rfl, hsz, hP, hK, hD0⟩ := hv
  have hx := B.exec
  have hb := B.bytes
  have hr := B.returns
  have hts := atoms_spec (ws := wsX2_isDirty) B.pre
  have hts : ∀ w ∈ lw_all, w.before _ s = true := fun w h => hts w (List.mem_cons_of_mem _ h)
  have hown : s.vm.findClass RX2 = some m.cls := findClass_of_methodNamed B.named
  have hlocks := B.notSynchronized
  subst hsz
  have hD := hD0.self (sz := s.heap.size)
  generalize hAe : va_A (mw ad ci cz li ma wo di ba cp tg hi mi go) s.heap.size = A at hD ⊢
  have hA : ∀ q : Nat, s.heap.size ≤ q → A q := fun q h => by rw [← hAe]; exact Or.inr h
  have hS : va_S A s.heap s.heap [] := va_S.rf
  have hP : va_P (dC, dI) vwCl (mw ad ci cz li ma wo di ba cp tg hi mi go) s.heap := hP
  have hl := lv_entry ([.ref (ad 0), .int v]) (n := 2) (Nat.le_of_ble_eq_true rfl)
  rw [lg_entry_eq]
  generalize (lg_sl ([.ref (ad 0), .int v]) ++ List.replicate (2 - (lg_sl ([.ref (ad 0), .int v])).length) Slot.unset).toArray = ls at hl ⊢
  have hl : lv_has ls 2 [(0, .ref (ad 0)), (1, .int v)] := hl
  refine lv_iload_n hx hb dX2_isDirty_0 rfl (lv_at hl 1 rfl) ?_
  refine va_calli (va_runS (As := [.int v]) (rest := []) ⟨hx, hb, hml, hown, hts⟩ (metX2_isAddress l v) (va_cwS 1 hts (lw_S q204 q205 q17 q206) rfl rfl rfl (by decide +kernel) ⟨Nat.le_of_ble_eq_true rfl, Nat.le_of_ble_eq_true rfl⟩) ⟨fun a U g mk q => q, fun U hU hW => ⟨rfl, trivial⟩⟩ rfl rfl hl.1 rfl (lv_room (Nat.le_of_ble_eq_true rfl)) dX2_isDirty_1 ⟨Nat.le_of_ble_eq_true rfl, Nat.le_of_ble_eq_true rfl⟩) hS (fun q _ h => h.elim) (fun q h => h.elim) (fun r0 u t H1 locs ht hvm hw hB hzq hkq hS => ?_)
  have hP : va_P (dC, dI) vwCl (mw ad ci cz li ma wo di ba cp tg hi mi go) H1 := hP.kept (fun k q hq => hkq q.1 ((hP k q hq).lt) (fun h => h))
  generalize H1 = H at hP hS ⊢
  rcases hw with ⟨e0, j, hj, ej⟩ | ⟨e0, hj⟩
  · subst e0
    subst ej
    refine q_if_eq (tgt := 20) hx hb (by decide) dX2_isDirty_4 (by decide) (fun q => absurd q (by decide)) (fun _ => ?_)
    refine lv_aload_n hx hb dX2_isDirty_7 rfl (lv_at hl 0 rfl) ?_
    refine va_get (D := (dC, dI)) (ci := 1) (v := .ref (ad 5)) (C := RX2) (T := TX2) (N := 10) hx hb hts in_X2 hown hK hP 0 rfl rfl 5 (by decide) (hts _ q166) (fun _ h9 => h9) rfl dX2_isDirty_8 ?_
    refine lv_iload_n hx hb dX2_isDirty_11 rfl (lv_at hl 1 rfl) ?_
    refine q_zald (v := (di j)) hx hb hK hP 5 1 rfl rfl (by omega) (by decide) rfl dX2_isDirty_12 ?_
    refine q_bf_eq (tgt := 20) hx hb dX2_isDirty_13 (by decide) (fun hc => ?_) (fun hc => ?_)
    · refine lv_iconst (v := (nI 0)) hx hb dX2_isDirty_20 (by decide) ?_
      exact W.zret (v := (nI 0)) hx hb hr rfl (fun t ht hW => ⟨⟨(nI 0), (), rfl, (by rw [q_so_in hj]; exact (if_pos hc).symm), by rw [ht]; exact hP, va_K.moved hW.alike hK, hD⟩, hS.F ht⟩) hS.2.2 dX2_isDirty_21
    · refine lv_iconst (v := (nI 1)) hx hb dX2_isDirty_16 (by decide) ?_
      refine lv_goto (tgt := 21) hx hb dX2_isDirty_17 (by decide) ?_
      exact W.zret (v := (nI 1)) hx hb hr rfl (fun t ht hW => ⟨⟨(nI 1), (), rfl, (by rw [q_so_in hj]; exact (if_neg hc).symm), by rw [ht]; exact hP, va_K.moved hW.alike hK, hD⟩, hS.F ht⟩) hS.2.2 dX2_isDirty_21
  · subst e0
    refine q_if_eq (tgt := 20) hx hb (by decide) dX2_isDirty_4 (by decide) (fun _ => ?_) (fun q => absurd q (by decide))
    refine lv_iconst (v := (nI 0)) hx hb dX2_isDirty_20 (by decide) ?_
    exact W.zret (v := (nI 0)) hx hb hr rfl (fun t ht hW => ⟨⟨(nI 0), (), rfl, (by rw [q_so_out hj]), by rw [ht]; exact hP, va_K.moved hW.alike hK, hD⟩, hS.F ht⟩) hS.2.2 dX2_isDirty_21
/-- target() -/
abbrev wsX2_target : List Cond := ws_ yX2_target cX2_target 1 (some .int)
set_option maxHeartbeats 4000000 in
set_option maxRecDepth 100000 in
theorem metX2_target (l : Launch) (dC : Nat → ClassId) (dI : Nat → Nat → Nat) (ci cz : ClassId) (ad : Nat → Nat) (sz : Nat) (li ma wo di ba : Nat → Int32) (cp tg hi mi go : Int32)  : Met l yX2_target wsX2_target ({ frames := 0, cells := 0, slots := 0, locals := 0 }) (va_Pc [.ref (ad 0)] (q_Pre dC dI ci cz sz (mw ad ci cz li ma wo di ba cp tg hi mi go))) (va_Qi (fun (r : Int32) (_ : Unit) => r = tg) (fun (_ : Unit) t => q_Post dC dI ci cz (va_A (mw ad ci cz li ma wo di ba cp tg hi mi go) sz) (mw ad ci cz li ma wo di ba cp tg hi mi go) t) (va_A (mw ad ci cz li ma wo di ba cp tg hi mi go) sz)) 0 0 (va_A (mw ad ci cz li ma wo di ba cp tg hi mi go) sz) := by
  refine Met.ofW (cc := cX2_target) (maxL := 1) (ret := (some .int)) (by decide) rfl ?_
  intro p e s m args below meth c s₁ B hml hv
  obtain ⟨rfl, hsz, hP, hK, hD0⟩ := hv
  have hx := B.exec
  have hb := B.bytes
  have hr := B.returns
  have hts := atoms_spec (ws := wsX2_target) B.pre
  have hts : ∀ w ∈ lw_all, w.before _ s = true := fun w h => hts w (List.mem_cons_of_mem _ h)
  have hown : s.vm.findClass RX2 = some m.cls := findClass_of_methodNamed B.named
  have hlocks := B.notSynchronized
  subst hsz
  have hD := hD0.self (sz := s.heap.size)
  generalize hAe : va_A (mw ad ci cz li ma wo di ba cp tg hi mi go) s.heap.size = A at hD ⊢
  have hA : ∀ q : Nat, s.heap.size ≤ q → A q := fun q h => by rw [← hAe]; exact Or.inr h
  have hS : va_S A s.heap s.heap [] := va_S.rf
  have hP : va_P (dC, dI) vwCl (mw ad ci cz li ma wo di ba cp tg hi mi go) s.heap := hP
  have hl := lv_entry ([.ref (ad 0)]) (n := 1) (Nat.le_of_ble_eq_true rfl)
  rw [lg_entry_eq]
  generalize (lg_sl ([.ref (ad 0)]) ++ List.replicate (1 - (lg_sl ([.ref (ad 0)])).length) Slot.unset).toArray = ls at hl ⊢
  have hl : lv_has ls 1 [(0, .ref (ad 0))] := hl
  refine lv_aload_n hx hb dX2_target_0 rfl (lv_at hl 0 rfl) ?_
  refine va_get (D := (dC, dI)) (ci := 1) (v := .int tg) (C := RX2) (T := TX2) (N := 10) hx hb hts in_X2 hown hK hP 0 rfl rfl 6 (by decide) (hts _ q167) (fun _ h9 => h9) rfl dX2_target_1 ?_
  exact W.iret (v := tg) hx hb hr (fun t ht hW => ⟨⟨tg, (), rfl, rfl, by rw [ht]; exact hP, va_K.moved hW.alike hK, hD⟩, hS.F ht⟩) hS.2.2 dX2_target_4
/-- hits() -/
abbrev wsX2_hits : List Cond := ws_ yX2_hits cX2_hits 1 (some .int)
set_option maxHeartbeats 4000000 in
set_option maxRecDepth 100000 in
theorem metX2_hits (l : Launch) (dC : Nat → ClassId) (dI : Nat → Nat → Nat) (ci cz : ClassId) (ad : Nat → Nat) (sz : Nat) (li ma wo di ba : Nat → Int32) (cp tg hi mi go : Int32)  : Met l yX2_hits wsX2_hits ({ frames := 0, cells := 0, slots := 0, locals := 0 }) (va_Pc [.ref (ad 0)] (q_Pre dC dI ci cz sz (mw ad ci cz li ma wo di ba cp tg hi mi go))) (va_Qi (fun (r : Int32) (_ : Unit) => r = hi) (fun (_ : Unit) t => q_Post dC dI ci cz (va_A (mw ad ci cz li ma wo di ba cp tg hi mi go) sz) (mw ad ci cz li ma wo di ba cp tg hi mi go) t) (va_A (mw ad ci cz li ma wo di ba cp tg hi mi go) sz)) 0 0 (va_A (mw ad ci cz li ma wo di ba cp tg hi mi go) sz) := by
  refine Met.ofW (cc := cX2_hits) (maxL := 1) (ret := (some .int)) (by decide) rfl ?_
  intro p e s m args below meth c s₁ B hml hv
  obtain ⟨rfl, hsz, hP, hK, hD0⟩ := hv
  have hx := B.exec
  have hb := B.bytes
  have hr := B.returns
  have hts := atoms_spec (ws := wsX2_hits) B.pre
  have hts : ∀ w ∈ lw_all, w.before _ s = true := fun w h => hts w (List.mem_cons_of_mem _ h)
  have hown : s.vm.findClass RX2 = some m.cls := findClass_of_methodNamed B.named
  have hlocks := B.notSynchronized
  subst hsz
  have hD := hD0.self (sz := s.heap.size)
  generalize hAe : va_A (mw ad ci cz li ma wo di ba cp tg hi mi go) s.heap.size = A at hD ⊢
  have hA : ∀ q : Nat, s.heap.size ≤ q → A q := fun q h => by rw [← hAe]; exact Or.inr h
  have hS : va_S A s.heap s.heap [] := va_S.rf
  have hP : va_P (dC, dI) vwCl (mw ad ci cz li ma wo di ba cp tg hi mi go) s.heap := hP
  have hl := lv_entry ([.ref (ad 0)]) (n := 1) (Nat.le_of_ble_eq_true rfl)
  rw [lg_entry_eq]
  generalize (lg_sl ([.ref (ad 0)]) ++ List.replicate (1 - (lg_sl ([.ref (ad 0)])).length) Slot.unset).toArray = ls at hl ⊢
  have hl : lv_has ls 1 [(0, .ref (ad 0))] := hl
  refine lv_aload_n hx hb dX2_hits_0 rfl (lv_at hl 0 rfl) ?_
  refine va_get (D := (dC, dI)) (ci := 1) (v := .int hi) (C := RX2) (T := TX2) (N := 10) hx hb hts in_X2 hown hK hP 0 rfl rfl 7 (by decide) (hts _ q168) (fun _ h9 => h9) rfl dX2_hits_1 ?_
  exact W.iret (v := hi) hx hb hr (fun t ht hW => ⟨⟨hi, (), rfl, rfl, by rw [ht]; exact hP, va_K.moved hW.alike hK, hD⟩, hS.F ht⟩) hS.2.2 dX2_hits_4
/-- misses() -/
abbrev wsX2_misses : List Cond := ws_ yX2_misses cX2_misses 1 (some .int)
set_option maxHeartbeats 4000000 in
set_option maxRecDepth 100000 in
theorem metX2_misses (l : Launch) (dC : Nat → ClassId) (dI : Nat → Nat → Nat) (ci cz : ClassId) (ad : Nat → Nat) (sz : Nat) (li ma wo di ba : Nat → Int32) (cp tg hi mi go : Int32)  : Met l yX2_misses wsX2_misses ({ frames := 0, cells := 0, slots := 0, locals := 0 }) (va_Pc [.ref (ad 0)] (q_Pre dC dI ci cz sz (mw ad ci cz li ma wo di ba cp tg hi mi go))) (va_Qi (fun (r : Int32) (_ : Unit) => r = mi) (fun (_ : Unit) t => q_Post dC dI ci cz (va_A (mw ad ci cz li ma wo di ba cp tg hi mi go) sz) (mw ad ci cz li ma wo di ba cp tg hi mi go) t) (va_A (mw ad ci cz li ma wo di ba cp tg hi mi go) sz)) 0 0 (va_A (mw ad ci cz li ma wo di ba cp tg hi mi go) sz) := by
  refine Met.ofW (cc := cX2_misses) (maxL := 1) (ret := (some .int)) (by decide) rfl ?_
  intro p e s m args below meth c s₁ B hml hv
  obtain ⟨rfl, hsz, hP, hK, hD0⟩ := hv
  have hx := B.exec
  have hb := B.bytes
  have hr := B.returns
  have hts := atoms_spec (ws := wsX2_misses) B.pre
  have hts : ∀ w ∈ lw_all, w.before _ s = true := fun w h => hts w (List.mem_cons_of_mem _ h)
  have hown : s.vm.findClass RX2 = some m.cls := findClass_of_methodNamed B.named
  have hlocks := B.notSynchronized
  subst hsz
  have hD := hD0.self (sz := s.heap.size)
  generalize hAe : va_A (mw ad ci cz li ma wo di ba cp tg hi mi go) s.heap.size = A at hD ⊢
  have hA : ∀ q : Nat, s.heap.size ≤ q → A q := fun q h => by rw [← hAe]; exact Or.inr h
  have hS : va_S A s.heap s.heap [] := va_S.rf
  have hP : va_P (dC, dI) vwCl (mw ad ci cz li ma wo di ba cp tg hi mi go) s.heap := hP
  have hl := lv_entry ([.ref (ad 0)]) (n := 1) (Nat.le_of_ble_eq_true rfl)
  rw [lg_entry_eq]
  generalize (lg_sl ([.ref (ad 0)]) ++ List.replicate (1 - (lg_sl ([.ref (ad 0)])).length) Slot.unset).toArray = ls at hl ⊢
  have hl : lv_has ls 1 [(0, .ref (ad 0))] := hl
  refine lv_aload_n hx hb dX2_misses_0 rfl (lv_at hl 0 rfl) ?_
  refine va_get (D := (dC, dI)) (ci := 1) (v := .int mi) (C := RX2) (T := TX2) (N := 10) hx hb hts in_X2 hown hK hP 0 rfl rfl 8 (by decide) (hts _ q169) (fun _ h9 => h9) rfl dX2_misses_1 ?_
  exact W.iret (v := mi) hx hb hr (fun t ht hW => ⟨⟨mi, (), rfl, rfl, by rw [ht]; exact hP, va_K.moved hW.alike hK, hD⟩, hS.F ht⟩) hS.2.2 dX2_misses_4
/-- gone() -/
abbrev wsX2_gone : List Cond := ws_ yX2_gone cX2_gone 1 (some .int)
set_option maxHeartbeats 4000000 in
set_option maxRecDepth 100000 in
theorem metX2_gone (l : Launch) (dC : Nat → ClassId) (dI : Nat → Nat → Nat) (ci cz : ClassId) (ad : Nat → Nat) (sz : Nat) (li ma wo di ba : Nat → Int32) (cp tg hi mi go : Int32)  : Met l yX2_gone wsX2_gone ({ frames := 0, cells := 0, slots := 0, locals := 0 }) (va_Pc [.ref (ad 0)] (q_Pre dC dI ci cz sz (mw ad ci cz li ma wo di ba cp tg hi mi go))) (va_Qi (fun (r : Int32) (_ : Unit) => r = go) (fun (_ : Unit) t => q_Post dC dI ci cz (va_A (mw ad ci cz li ma wo di ba cp tg hi mi go) sz) (mw ad ci cz li ma wo di ba cp tg hi mi go) t) (va_A (mw ad ci cz li ma wo di ba cp tg hi mi go) sz)) 0 0 (va_A (mw ad ci cz li ma wo di ba cp tg hi mi go) sz) := by
  refine Met.ofW (cc := cX2_gone) (maxL := 1) (ret := (some .int)) (by decide) rfl ?_
  intro p e s m args below meth c s₁ B hml hv
  obtain ⟨rfl, hsz, hP, hK, hD0⟩ := hv
  have hx := B.exec
  have hb := B.bytes
  have hr := B.returns
  have hts := atoms_spec (ws := wsX2_gone) B.pre
  have hts : ∀ w ∈ lw_all, w.before _ s = true := fun w h => hts w (List.mem_cons_of_mem _ h)
  have hown : s.vm.findClass RX2 = some m.cls := findClass_of_methodNamed B.named
  have hlocks := B.notSynchronized
  subst hsz
  have hD := hD0.self (sz := s.heap.size)
  generalize hAe : va_A (mw ad ci cz li ma wo di ba cp tg hi mi go) s.heap.size = A at hD ⊢
  have hA : ∀ q : Nat, s.heap.size ≤ q → A q := fun q h => by rw [← hAe]; exact Or.inr h
  have hS : va_S A s.heap s.heap [] := va_S.rf
  have hP : va_P (dC, dI) vwCl (mw ad ci cz li ma wo di ba cp tg hi mi go) s.heap := hP
  have hl := lv_entry ([.ref (ad 0)]) (n := 1) (Nat.le_of_ble_eq_true rfl)
  rw [lg_entry_eq]
  generalize (lg_sl ([.ref (ad 0)]) ++ List.replicate (1 - (lg_sl ([.ref (ad 0)])).length) Slot.unset).toArray = ls at hl ⊢
  have hl : lv_has ls 1 [(0, .ref (ad 0))] := hl
  refine lv_aload_n hx hb dX2_gone_0 rfl (lv_at hl 0 rfl) ?_
  refine va_get (D := (dC, dI)) (ci := 1) (v := .int go) (C := RX2) (T := TX2) (N := 10) hx hb hts in_X2 hown hK hP 0 rfl rfl 9 (by decide) (hts _ q170) (fun _ h9 => h9) rfl dX2_gone_1 ?_
  exact W.iret (v := go) hx hb hr (fun t ht hW => ⟨⟨go, (), rfl, rfl, by rw [ht]; exact hP, va_K.moved hW.alike hK, hD⟩, hS.F ht⟩) hS.2.2 dX2_gone_4
/-- length(v) -/
abbrev wsX2_length : List Cond := ws_ yX2_length cX2_length 2 (some .int)
set_option maxHeartbeats 4000000 in
set_option maxRecDepth 100000 in
theorem metX2_length (l : Launch) (dC : Nat → ClassId) (dI : Nat → Nat → Nat) (ci cz : ClassId) (ad : Nat → Nat) (sz : Nat) (li ma wo di ba : Nat → Int32) (cp tg hi mi go : Int32) {L : Nat → List Nat} {v : Int32} (hR : m_rep L li ma) : Met l yX2_length wsX2_length ({ frames := 0, cells := 0, slots := 0, locals := 0 }) (va_Pc [.ref (ad 0), .int v] (q_Pre dC dI ci cz sz (mw ad ci cz li ma wo di ba cp tg hi mi go))) (va_Qi (fun (r : Int32) (_ : Unit) => r = q_le L v) (fun (_ : Unit) t => q_Post dC dI ci cz (va_A (mw ad ci cz li ma wo di ba cp tg hi mi go) sz) (mw ad ci cz li ma wo di ba cp tg hi mi go) t) (va_A (mw ad ci cz li ma wo di ba cp tg hi mi go) sz)) 0 0 (va_A (mw ad ci cz li ma wo di ba cp tg hi mi go) sz) := by
  refine Met.ofW (cc := cX2_length) (maxL := 2) (ret := (some .int)) (by decide) rfl ?_
  intro p e s m args below meth c s₁ B hml hv
  obtain ⟨rfl, hsz, hP, hK, hD0⟩ := hv
  have hx := B.exec
  have hb := B.bytes
  have hr := B.returns
  have hts := atoms_spec (ws := wsX2_length) B.pre
  have hts : ∀ w ∈ lw_all, w.before _ s = true := fun w h => hts w (List.mem_cons_of_mem _ h)
  have hown : s.vm.findClass RX2 = some m.cls := findClass_of_methodNamed B.named
  have hlocks := B.notSynchronized
  subst hsz
  have hD := hD0.self (sz := s.heap.size)
  generalize hAe : va_A (mw ad ci cz li ma wo di ba cp tg hi mi go) s.heap.size = A at hD ⊢
  have hA : ∀ q : Nat, s.heap.size ≤ q → A q := fun q h => by rw [← hAe]; exact Or.inr h
  have hS : va_S A s.heap s.heap [] := va_S.rf
  have hP : va_P (dC, dI) vwCl (mw ad ci cz li ma wo di ba cp tg hi mi go) s.heap := hP
  have hl := lv_entry ([.ref (ad 0), .int v]) (n := 2) (Nat.le_of_ble_eq_true rfl)
  rw [lg_entry_eq]
  generalize (lg_sl ([.ref (ad 0), .int v]) ++ List.replicate (2 - (lg_sl ([.ref (ad 0), .int v])).length) Slot.unset).toArray = ls at hl ⊢
  have hl : lv_has ls 2 [(0, .ref (ad 0)), (1, .int v)] := hl
  refine lv_iload_n hx hb dX2_length_0 rfl (lv_at hl 1 rfl) ?_
  refine lv_iconst (v := (nI 1)) hx hb dX2_length_1 (by decide) ?_
  refine lv_icmp_lt (tgt := 10) hx hb dX2_length_2 (by decide) (fun hc => ?_) (fun hc => ?_)
  · refine lv_iconst (v := (-1)) hx hb dX2_length_10 (by decide) ?_
    refine lv_goto (tgt := 20) hx hb dX2_length_11 (by decide) ?_
    exact W.iret (v := (-1)) hx hb hr (fun t ht hW => ⟨⟨(-1), (), rfl, (by rw [q_le_lo hc]), by rw [ht]; exact hP, va_K.moved hW.alike hK, hD⟩, hS.F ht⟩) hS.2.2 dX2_length_20
  · refine lv_iload_n hx hb dX2_length_5 rfl (lv_at hl 1 rfl) ?_
    refine lv_iconst (v := (nI 4)) hx hb dX2_length_6 (by decide) ?_
    refine lv_icmp_le (tgt := 14) hx hb dX2_length_7 (by decide) (fun hc2 => ?_) (fun hc2 => ?_)
    · obtain ⟨j, hj1, hj4, ej⟩ := q_14 hc hc2
      subst ej
      refine lv_aload_n hx hb dX2_length_14 rfl (lv_at hl 0 rfl) ?_
      refine va_get (D := (dC, dI)) (ci := 1) (v := .ref (ad 2)) (C := RX2) (T := TX2) (N := 10) hx hb hts in_X2 hown hK hP 0 rfl rfl 2 (by decide) (hts _ q163) (fun _ h9 => h9) rfl dX2_length_15 ?_
      refine lv_iload_n hx hb dX2_length_18 rfl (lv_at hl 1 rfl) ?_
      refine q_iald (v := (nI ((L j).length))) hx hb hK hP 2 0 rfl rfl (by omega) (by decide) (hR.1 j hj1 hj4) dX2_length_19 ?_
      exact W.iret (v := (nI ((L j).length))) hx hb hr (fun t ht hW => ⟨⟨(nI ((L j).length)), (), rfl, (by rw [q_le_in hj1 hj4]), by rw [ht]; exact hP, va_K.moved hW.alike hK, hD⟩, hS.F ht⟩) hS.2.2 dX2_length_20
    · refine lv_iconst (v := (-1)) hx hb dX2_length_10 (by decide) ?_
      refine lv_goto (tgt := 20) hx hb dX2_length_11 (by decide) ?_
      exact W.iret (v := (-1)) hx hb hr (fun t ht hW => ⟨⟨(-1), (), rfl, (by rw [q_le_hi hc2]), by rw [ht]; exact hP, va_K.moved hW.alike hK, hD⟩, hS.F ht⟩) hS.2.2 dX2_length_20
/-- at(v, x) -/
abbrev wsX2_at : List Cond := ws_ yX2_at cX2_at 3 (some .int)
set_option maxHeartbeats 4000000 in
set_option maxRecDepth 100000 in
theorem metX2_at (l : Launch) (dC : Nat → ClassId) (dI : Nat → Nat → Nat) (ci cz : ClassId) (ad : Nat → Nat) (sz : Nat) (li ma wo di ba : Nat → Int32) (cp tg hi mi go : Int32) {L : Nat → List Nat} {v x : Int32} (hok : q_ok L) (hR : m_rep L li ma) : Met l yX2_at wsX2_at ({ frames := 0, cells := 0, slots := 0, locals := 0 }) (va_Pc [.ref (ad 0), .int v, .int x] (q_Pre dC dI ci cz sz (mw ad ci cz li ma wo di ba cp tg hi mi go))) (va_Qi (fun (r : Int32) (_ : Unit) => r = q_at L v x) (fun (_ : Unit) t => q_Post dC dI ci cz (va_A (mw ad ci cz li ma wo di ba cp tg hi mi go) sz) (mw ad ci cz li ma wo di ba cp tg hi mi go) t) (va_A (mw ad ci cz li ma wo di ba cp tg hi mi go) sz)) 0 0 (va_A (mw ad ci cz li ma wo di ba cp tg hi mi go) sz) := by
  refine Met.ofW (cc := cX2_at) (maxL := 3) (ret := (some .int)) (by decide) rfl ?_
  intro p e s m args below meth c s₁ B hml hv
  obtain ⟨rfl, hsz, hP, hK, hD0⟩ := hv
  have hx := B.exec
  have hb := B.bytes
  have hr := B.returns
  have hts := atoms_spec (ws := wsX2_at) B.pre
  have hts : ∀ w ∈ lw_all, w.before _ s = true := fun w h => hts w (List.mem_cons_of_mem _ h)
  have hown : s.vm.findClass RX2 = some m.cls := findClass_of_methodNamed B.named
  have hlocks := B.notSynchronized
  subst hsz
  have hD := hD0.self (sz := s.heap.size)
  generalize hAe : va_A (mw ad ci cz li ma wo di ba cp tg hi mi go) s.heap.size = A at hD ⊢
  have hA : ∀ q : Nat, s.heap.size ≤ q → A q := fun q h => by rw [← hAe]; exact Or.inr h
  have hS : va_S A s.heap s.heap [] := va_S.rf
  have hP : va_P (dC, dI) vwCl (mw ad ci cz li ma wo di ba cp tg hi mi go) s.heap := hP
  have hl := lv_entry ([.ref (ad 0), .int v, .int x]) (n := 3) (Nat.le_of_ble_eq_true rfl)
  rw [lg_entry_eq]
  generalize (lg_sl ([.ref (ad 0), .int v, .int x]) ++ List.replicate (3 - (lg_sl ([.ref (ad 0), .int v, .int x])).length) Slot.unset).toArray = ls at hl ⊢
  have hl : lv_has ls 3 [(0, .ref (ad 0)), (1, .int v), (2, .int x)] := hl
  refine lv_iload_n hx hb dX2_at_0 rfl (lv_at hl 1 rfl) ?_
  refine lv_iconst (v := (nI 1)) hx hb dX2_at_1 (by decide) ?_
  refine lv_icmp_lt (tgt := 24) hx hb dX2_at_2 (by decide) (fun hc => ?_) (fun hc => ?_)
  · refine lv_iconst (v := (-1)) hx hb dX2_at_24 (by decide) ?_
    refine lv_goto (tgt := 39) hx hb dX2_at_25 (by decide) ?_
    exact W.iret (v := (-1)) hx hb hr (fun t ht hW => ⟨⟨(-1), (), rfl, (by rw [q_at_1 hc]), by rw [ht]; exact hP, va_K.moved hW.alike hK, hD⟩, hS.F ht⟩) hS.2.2 dX2_at_39
  · refine lv_iload_n hx hb dX2_at_5 rfl (lv_at hl 1 rfl) ?_
    refine lv_iconst (v := (nI 4)) hx hb dX2_at_6 (by decide) ?_
    refine lv_icmp_gt (tgt := 24) hx hb dX2_at_7 (by decide) (fun hc2 => ?_) (fun hc2 => ?_)
    · refine lv_iconst (v := (-1)) hx hb dX2_at_24 (by decide) ?_
      refine lv_goto (tgt := 39) hx hb dX2_at_25 (by decide) ?_
      exact W.iret (v := (-1)) hx hb hr (fun t ht hW => ⟨⟨(-1), (), rfl, (by rw [q_at_4 hc2]), by rw [ht]; exact hP, va_K.moved hW.alike hK, hD⟩, hS.F ht⟩) hS.2.2 dX2_at_39
    · refine lv_iload_n hx hb dX2_at_10 rfl (lv_at hl 2 rfl) ?_
      refine lv_if_lt (tgt := 24) hx hb dX2_at_11 (by decide) (fun hc3 => ?_) (fun hc3 => ?_)
      · refine lv_iconst (v := (-1)) hx hb dX2_at_24 (by decide) ?_
        refine lv_goto (tgt := 39) hx hb dX2_at_25 (by decide) ?_
        exact W.iret (v := (-1)) hx hb hr (fun t ht hW => ⟨⟨(-1), (), rfl, (by rw [q_at_0 hc3]), by rw [ht]; exact hP, va_K.moved hW.alike hK, hD⟩, hS.F ht⟩) hS.2.2 dX2_at_39
      · obtain ⟨j, hj1, hj4, ej⟩ := q_14 hc (q_gt_le hc2)
        subst ej
        have hlj := q_L64 hok j
        refine lv_iload_n hx hb dX2_at_14 rfl (lv_at hl 2 rfl) ?_
        refine lv_aload_n hx hb dX2_at_15 rfl (lv_at hl 0 rfl) ?_
        refine va_get (D := (dC, dI)) (ci := 1) (v := .ref (ad 2)) (C := RX2) (T := TX2) (N := 10) hx hb hts in_X2 hown hK hP 0 rfl rfl 2 (by decide) (hts _ q163) (fun _ h9 => h9) rfl dX2_at_16 ?_
        refine lv_iload_n hx hb dX2_at_19 rfl (lv_at hl 1 rfl) ?_
        refine q_iald (v := (nI ((L j).length))) hx hb hK hP 2 0 rfl rfl (by omega) (by decide) (hR.1 j hj1 hj4) dX2_at_20 ?_
        refine lv_icmp_lt (tgt := 28) hx hb dX2_at_21 (by decide) (fun hc4 => ?_) (fun hc4 => ?_)
        · obtain ⟨i, hi9, ei⟩ := q_lt_ix hc3 hc4 (by omega)
          subst ei
          obtain ⟨b9, hb9⟩ : ∃ b, (L j)[i]? = some b := ⟨_, List.getElem?_eq_getElem (by omega)⟩
          refine lv_aload_n hx hb dX2_at_28 rfl (lv_at hl 0 rfl) ?_
          refine va_get (D := (dC, dI)) (ci := 1) (v := .ref (ad 1)) (C := RX2) (T := TX2) (N := 10) hx hb hts in_X2 hown hK hP 0 rfl rfl 1 (by decide) (hts _ q162) (fun _ h9 => h9) rfl dX2_at_29 ?_
          refine lv_bipush (v := (nI 64)) hx hb dX2_at_32 (by decide) ?_
          refine lv_iload_n hx hb dX2_at_34 rfl (lv_at hl 1 rfl) ?_
          refine q_imul hx hb dX2_at_35 ?_
          refine lv_iload_n hx hb dX2_at_36 rfl (lv_at hl 2 rfl) ?_
          refine q_iadd hx hb dX2_at_37 ?_
          refine q_iald (v := (nI b9)) hx hb hK hP 1 0 rfl rfl (by omega) (by decide) (hR.2 j i b9 hj1 hj4 hb9) dX2_at_38 ?_
          exact W.iret (v := (nI b9)) hx hb hr (fun t ht hW => ⟨⟨(nI b9), (), rfl, (by rw [q_at_in hj1 hj4 (by omega) hb9]), by rw [ht]; exact hP, va_K.moved hW.alike hK, hD⟩, hS.F ht⟩) hS.2.2 dX2_at_39
        · refine lv_iconst (v := (-1)) hx hb dX2_at_24 (by decide) ?_
          refine lv_goto (tgt := 39) hx hb dX2_at_25 (by decide) ?_
          exact W.iret (v := (-1)) hx hb hr (fun t ht hW => ⟨⟨(-1), (), rfl, (by rw [q_at_n hj1 hj4 hc4]), by rw [ht]; exact hP, va_K.moved hW.alike hK, hD⟩, hS.F ht⟩) hS.2.2 dX2_at_39
/-- flush() -/
abbrev wsX2_flush : List Cond := ws_ yX2_flush cX2_flush 3 (some .int)
set_option maxHeartbeats 4000000 in
set_option maxRecDepth 100000 in
theorem metX2_flush (l : Launch) (dC : Nat → ClassId) (dI : Nat → Nat → Nat) (ci cz : ClassId) (ad : Nat → Nat) (sz : Nat) (li ma wo di ba : Nat → Int32) (cp tg hi mi go : Int32)  : Met l yX2_flush wsX2_flush ({ frames := 1, cells := 0, slots := 0, locals := 21 }) (va_Pc [.ref (ad 0)] (q_Pre dC dI ci cz sz (mw ad ci cz li ma wo di ba cp tg hi mi go))) (va_Qi (fun (r : Int32) (_ : Unit) => r = q_ct di 64) (fun (_ : Unit) t => q_Post dC dI ci cz (va_A (mw ad ci cz li ma wo di ba cp tg hi mi go) sz) (mw ad ci cz li ma wo (q_z 64 di) (q_fb 64 wo ba di) cp tg hi mi go) t) (va_A (mw ad ci cz li ma wo di ba cp tg hi mi go) sz)) 0 0 (va_A (mw ad ci cz li ma wo di ba cp tg hi mi go) sz) := by
  refine Met.ofW (cc := cX2_flush) (maxL := 3) (ret := (some .int)) (by decide) rfl ?_
  intro p e s m args below meth c s₁ B hml hv
  obtain ⟨rfl, hsz, hP, hK, hD0⟩ := hv
  have hx := B.exec
  have hb := B.bytes
  have hr := B.returns
  have hts := atoms_spec (ws := wsX2_flush) B.pre
  have hts : ∀ w ∈ lw_all, w.before _ s = true := fun w h => hts w (List.mem_cons_of_mem _ h)
  have hown : s.vm.findClass RX2 = some m.cls := findClass_of_methodNamed B.named
  have hlocks := B.notSynchronized
  subst hsz
  have hD := hD0.self (sz := s.heap.size)
  generalize hAe : va_A (mw ad ci cz li ma wo di ba cp tg hi mi go) s.heap.size = A at hD ⊢
  have hA : ∀ q : Nat, s.heap.size ≤ q → A q := fun q h => by rw [← hAe]; exact Or.inr h
  have hS : va_S A s.heap s.heap [] := va_S.rf
  have hP : va_P (dC, dI) vwCl (mw ad ci cz li ma wo di ba cp tg hi mi go) s.heap := hP
  have hl := lv_entry ([.ref (ad 0)]) (n := 3) (Nat.le_of_ble_eq_true rfl)
  rw [lg_entry_eq]
  generalize (lg_sl ([.ref (ad 0)]) ++ List.replicate (3 - (lg_sl ([.ref (ad 0)])).length) Slot.unset).toArray = ls at hl ⊢
  have hl : lv_has ls 3 [(0, .ref (ad 0))] := hl
  have loop : ∀ (n i : Nat), i ≤ 64 → 64 + 1 ≤ i + n → ∀ (H : Heap) (locs : List Loc) (ls : Array Slot), va_P (dC, dI) vwCl (mw ad ci cz li ma wo (q_z i di) (q_fb i wo ba di) cp tg hi mi go) H → va_D A (mw ad ci cz li ma wo (q_z i di) (q_fb i wo ba di) cp tg hi mi go) → va_S A s.heap H locs → lv_has ls 3 [(2, .int (nI i)), (1, .int (q_ct di i)), (0, .ref (ad 0))] → W p l e (headSpec wsX2_flush ({ frames := 1, cells := 0, slots := 0, locals := 21 })).room s m ([.ref (ad 0)] : List Value).toArray below meth c H locs 0 0 (MQ below (va_Qi (fun (r : Int32) (_ : Unit) => r = q_ct di 64) (fun (_ : Unit) t => q_Post dC dI ci cz A (mw ad ci cz li ma wo (q_z 64 di) (q_fb 64 wo ba di) cp tg hi mi go) t) A) ([.ref (ad 0)] : List Value).toArray s 0 0 A) (F0 m 4 ls []) := by
    intro n
    induction n with
    | zero => intro i h1 h2; exact absurd h2 (by omega)
    | succ n ih =>
      intro i hi9 hn9 H locs ls hP hD hS hl
      refine lv_iload_n hx hb dX2_flush_4 rfl (lv_at hl 0 rfl) ?_
      refine lv_bipush (v := (nI 64)) hx hb dX2_flush_5 (by decide) ?_
      refine q_icmp_ge (tgt := 38) hx hb (by omega) (by omega) dX2_flush_7 (by decide) (fun hc => ?_) (fun hc => ?_)
      · obtain rfl : i = 64 := by omega
        refine lv_iload_n hx hb dX2_flush_38 rfl (lv_at hl 1 rfl) ?_
        exact W.iret (v := (q_ct di 64)) hx hb hr (fun t ht hW => ⟨⟨(q_ct di 64), (), rfl, rfl, by rw [ht]; exact hP, va_K.moved hW.alike hK, hD⟩, hS.F ht⟩) hS.2.2 dX2_flush_39
      · refine lv_iload_n hx hb dX2_flush_10 rfl (lv_at hl 1 rfl) ?_
        refine lv_aload_n hx hb dX2_flush_11 rfl (lv_at hl 2 rfl) ?_
        refine va_get (D := (dC, dI)) (ci := 1) (v := .ref (ad 5)) (C := RX2) (T := TX2) (N := 10) hx hb hts in_X2 hown hK hP 0 rfl rfl 5 (by decide) (hts _ q166) (fun _ h9 => h9) rfl dX2_flush_12 ?_
        refine lv_iload_n hx hb dX2_flush_15 rfl (lv_at hl 0 rfl) ?_
        refine q_zald (v := (di i)) hx hb hK hP 5 1 rfl rfl (by omega) (by decide) q_z_at dX2_flush_16 ?_
        refine q_bf_eq (tgt := 24) hx hb dX2_flush_17 (by decide) (fun hd => ?_) (fun hd => ?_)
        · refine lv_iconst (v := (nI 0)) hx hb dX2_flush_24 (by decide) ?_
          refine lv_iadd hx hb dX2_flush_25 ?_
          refine q_top (y := (q_ct di (i + 1))) (q_ct_n hd) ?_
          refine lv_istore_n (lv' := [(1, .int (q_ct di (i + 1))), (2, .int (nI i)), (0, .ref (ad 0))]) hx hb dX2_flush_26 rfl hl (by decide) rfl (fun ls hl => ?_)
          refine lv_aload_n hx hb dX2_flush_27 rfl (lv_at hl 2 rfl) ?_
          refine lv_iload_n hx hb dX2_flush_28 rfl (lv_at hl 1 rfl) ?_
          have hFc := va_free (wc := (mw ad ci cz li ma wo (q_z i di) (q_fb i wo ba di) cp tg hi mi go)) hD hS hA [0, 1, 2, 3, 4, 5] rfl
          refine va_callv (va_runV (As := [.int (nI i)]) (rest := []) ⟨hx, hb, hml, hown, hts⟩ (metX2_clean l dC dI ci cz ad H.size li ma wo (q_z i di) (q_fb i wo ba di) cp tg hi mi go hc) (cwV 1 hts (lw_V q236 q238 qs14 q17 q239) rfl rfl rfl (by decide +kernel) ⟨Nat.le_of_ble_eq_true rfl, Nat.le_of_ble_eq_true rfl⟩) ⟨q_blind, va_recv hK hP (ci := 1) (q0 := 0) rfl rfl, fun U hU hW => q_ent hP hK hD hU hW⟩ rfl rfl hl.1 rfl (lv_room (Nat.le_of_ble_eq_true rfl)) dX2_flush_29 ⟨Nat.le_of_ble_eq_true rfl, Nat.le_of_ble_eq_true rfl⟩) hS (fun q _ h => hFc q h) hFc (fun  u t H1 locs ht hvm hw hB hzq hkq hS => ?_)
          obtain ⟨hP1, hK1, hD1⟩ := hB
          rw [ht] at hP1
          have hP : va_P (dC, dI) vwCl (mw ad ci cz li ma wo (upd (q_z i di) i (nI 0)) (q_gb wo (q_fb i wo ba di) (q_z i di) i) cp tg hi mi go) H1 := hP1
          have hD : va_D A (mw ad ci cz li ma wo (upd (q_z i di) i (nI 0)) (q_gb wo (q_fb i wo ba di) (q_z i di) i) cp tg hi mi go) := hD1.weaken (fun k q _ h => hFc q.1 h)
          generalize H1 = H at hP hS ⊢
          rw [q_fb_g, q_z_s] at hP hD
          refine lv_iinc (v := (nI (i + 1))) (lv' := [(2, .int (nI (i + 1))), (1, .int (q_ct di (i + 1))), (0, .ref (ad 0))]) hx hb dX2_flush_32 hl (k := 1) rfl (q_inc1 i) (by decide) rfl (fun ls hl => ?_)
          refine lv_goto (tgt := 4) hx hb dX2_flush_35 (by decide) ?_
          exact ih (i + 1) (by omega) (by omega) H locs ls hP hD hS (lv_sub hl [0, 1, 2] rfl)
        · refine lv_iconst (v := (nI 1)) hx hb dX2_flush_20 (by decide) ?_
          refine lv_goto (tgt := 25) hx hb dX2_flush_21 (by decide) ?_
          refine lv_iadd hx hb dX2_flush_25 ?_
          refine q_top (y := (q_ct di (i + 1))) (q_ct_y hd) ?_
          refine lv_istore_n (lv' := [(1, .int (q_ct di (i + 1))), (2, .int (nI i)), (0, .ref (ad 0))]) hx hb dX2_flush_26 rfl hl (by decide) rfl (fun ls hl => ?_)
          refine lv_aload_n hx hb dX2_flush_27 rfl (lv_at hl 2 rfl) ?_
          refine lv_iload_n hx hb dX2_flush_28 rfl (lv_at hl 1 rfl) ?_
          have hFc := va_free (wc := (mw ad ci cz li ma wo (q_z i di) (q_fb i wo ba di) cp tg hi mi go)) hD hS hA [0, 1, 2, 3, 4, 5] rfl
          refine va_callv (va_runV (As := [.int (nI i)]) (rest := []) ⟨hx, hb, hml, hown, hts⟩ (metX2_clean l dC dI ci cz ad H.size li ma wo (q_z i di) (q_fb i wo ba di) cp tg hi mi go hc) (cwV 1 hts (lw_V q236 q238 qs14 q17 q239) rfl rfl rfl (by decide +kernel) ⟨Nat.le_of_ble_eq_true rfl, Nat.le_of_ble_eq_true rfl⟩) ⟨q_blind, va_recv hK hP (ci := 1) (q0 := 0) rfl rfl, fun U hU hW => q_ent hP hK hD hU hW⟩ rfl rfl hl.1 rfl (lv_room (Nat.le_of_ble_eq_true rfl)) dX2_flush_29 ⟨Nat.le_of_ble_eq_true rfl, Nat.le_of_ble_eq_true rfl⟩) hS (fun q _ h => hFc q h) hFc (fun  u t H1 locs ht hvm hw hB hzq hkq hS => ?_)
          obtain ⟨hP1, hK1, hD1⟩ := hB
          rw [ht] at hP1
          have hP : va_P (dC, dI) vwCl (mw ad ci cz li ma wo (upd (q_z i di) i (nI 0)) (q_gb wo (q_fb i wo ba di) (q_z i di) i) cp tg hi mi go) H1 := hP1
          have hD : va_D A (mw ad ci cz li ma wo (upd (q_z i di) i (nI 0)) (q_gb wo (q_fb i wo ba di) (q_z i di) i) cp tg hi mi go) := hD1.weaken (fun k q _ h => hFc q.1 h)
          generalize H1 = H at hP hS ⊢
          rw [q_fb_g, q_z_s] at hP hD
          refine lv_iinc (v := (nI (i + 1))) (lv' := [(2, .int (nI (i + 1))), (1, .int (q_ct di (i + 1))), (0, .ref (ad 0))]) hx hb dX2_flush_32 hl (k := 1) rfl (q_inc1 i) (by decide) rfl (fun ls hl => ?_)
          refine lv_goto (tgt := 4) hx hb dX2_flush_35 (by decide) ?_
          exact ih (i + 1) (by omega) (by omega) H locs ls hP hD hS (lv_sub hl [0, 1, 2] rfl)
  refine lv_iconst (v := (nI 0)) hx hb dX2_flush_0 (by decide) ?_
  refine lv_istore_n (lv' := [(1, .int (nI 0)), (0, .ref (ad 0))]) hx hb dX2_flush_1 rfl hl (by decide) rfl (fun ls hl => ?_)
  refine lv_iconst (v := (nI 0)) hx hb dX2_flush_2 (by decide) ?_
  refine lv_istore_n (lv' := [(2, .int (nI 0)), (1, .int (nI 0)), (0, .ref (ad 0))]) hx hb dX2_flush_3 rfl hl (by decide) rfl (fun ls hl => ?_)
  exact loop 65 0 (by omega) (by omega) _ _ ls (by rw [q_fb_0, q_z_0]; exact hP) (by rw [q_fb_0, q_z_0]; exact hD) hS (lv_sub hl [0, 1, 2] rfl)
/-- init() -/
abbrev wsX2_init_2 : List Cond := ws_ yX2_init_2 cX2_init_2 2 none
set_option maxHeartbeats 4000000 in
set_option maxRecDepth 100000 in
theorem metX2_init_2 (l : Launch) (dC : Nat → ClassId) (dI : Nat → Nat → Nat) (ci cz : ClassId) (ad : Nat → Nat) (sz : Nat) (li ma wo di ba : Nat → Int32) (cp tg hi mi go : Int32)  : Met l yX2_init_2 wsX2_init_2 ({ frames := 0, cells := 0, slots := 0, locals := 0 }) (va_Pc [.ref (ad 0)] (q_Pre dC dI ci cz sz (mw ad ci cz li ma wo di ba cp tg hi mi go))) (va_Qv (fun u : m_U => m_rep q_L0 u.1 u.2) (mB dC dI ci cz (va_A (mw ad ci cz li ma wo di ba cp tg hi mi go) sz) ad (q_z 64 wo) (q_z 64 di) (q_z 64 ba) cp (nI 0) (nI 0) (nI 0) (nI 0)) (va_A (mw ad ci cz li ma wo di ba cp tg hi mi go) sz)) 0 0 (va_A (mw ad ci cz li ma wo di ba cp tg hi mi go) sz) := by
  refine Met.ofW (cc := cX2_init_2) (maxL := 2) (ret := none) (by decide) rfl ?_
  intro p e s m args below meth c s₁ B hml hv
  obtain ⟨rfl, hsz, hP, hK, hD0⟩ := hv
  have hx := B.exec
  have hb := B.bytes
  have hr := B.returns
  have hts := atoms_spec (ws := wsX2_init_2) B.pre
  have hts : ∀ w ∈ lw_all, w.before _ s = true := fun w h => hts w (List.mem_cons_of_mem _ h)
  have hown : s.vm.findClass RX2 = some m.cls := findClass_of_methodNamed B.named
  have hlocks := B.notSynchronized
  subst hsz
  have hD := hD0.self (sz := s.heap.size)
  generalize hAe : va_A (mw ad ci cz li ma wo di ba cp tg hi mi go) s.heap.size = A at hD ⊢
  have hA : ∀ q : Nat, s.heap.size ≤ q → A q := fun q h => by rw [← hAe]; exact Or.inr h
  have hS : va_S A s.heap s.heap [] := va_S.rf
  have hP : va_P (dC, dI) vwCl (mw ad ci cz li ma wo di ba cp tg hi mi go) s.heap := hP
  have hl := lv_entry ([.ref (ad 0)]) (n := 2) (Nat.le_of_ble_eq_true rfl)
  rw [lg_entry_eq]
  generalize (lg_sl ([.ref (ad 0)]) ++ List.replicate (2 - (lg_sl ([.ref (ad 0)])).length) Slot.unset).toArray = ls at hl ⊢
  have hl : lv_has ls 2 [(0, .ref (ad 0))] := hl
  have loop2 : ∀ (n i : Nat), i ≤ 64 → 64 + 1 ≤ i + n → ∀ (H : Heap) (locs : List Loc) (ls : Array Slot), va_P (dC, dI) vwCl (mw ad ci cz li (q_z 5 ma) (q_z i wo) (q_z i di) (q_z i ba) cp tg hi mi go) H → va_D A (mw ad ci cz li (q_z 5 ma) (q_z i wo) (q_z i di) (q_z i ba) cp tg hi mi go) → va_S A s.heap H locs → lv_has ls 2 [(1, .int (nI i)), (0, .ref (ad 0))] → W p l e (headSpec wsX2_init_2 ({ frames := 0, cells := 0, slots := 0, locals := 0 })).room s m ([.ref (ad 0)] : List Value).toArray below meth c H locs 0 0 (MQ below (va_Qv (fun u : m_U => m_rep q_L0 u.1 u.2) (mB dC dI ci cz A ad (q_z 64 wo) (q_z 64 di) (q_z 64 ba) cp (nI 0) (nI 0) (nI 0) (nI 0)) A) ([.ref (ad 0)] : List Value).toArray s 0 0 A) (F0 m 22 ls []) := by
    intro n
    induction n with
    | zero => intro i h1 h2; exact absurd h2 (by omega)
    | succ n ih =>
      intro i hi9 hn9 H locs ls hP hD hS hl
      refine lv_iload_n hx hb dX2_init_2_22 rfl (lv_at hl 0 rfl) ?_
      refine lv_bipush (v := (nI 64)) hx hb dX2_init_2_23 (by decide) ?_
      refine q_icmp_ge (tgt := 55) hx hb (by omega) (by omega) dX2_init_2_25 (by decide) (fun hc => ?_) (fun hc => ?_)
      · obtain rfl : i = 64 := by omega
        refine lv_aload_n hx hb dX2_init_2_55 rfl (lv_at hl 1 rfl) ?_
        refine lv_iconst (v := (nI 0)) hx hb dX2_init_2_56 (by decide) ?_
        refine va_put (D := (dC, dI)) (ci := 1) (v := .int (nI 0)) (ty := .int) (C := RX2) (T := TX2) (N := 10) hx hb hts in_X2 tyX2 tyX2_ok nmX2 hown hK hP hD hS 0 rfl rfl 6 (by decide) (hts _ q167) (fun _ h9 => h9) rfl (by decide +kernel) rfl rfl (Nat.le_of_ble_eq_true rfl) dX2_init_2_57 (fun H locs hP hD hS => ?_)
        have hP : va_P (dC, dI) vwCl (mw ad ci cz li (q_z 5 ma) (q_z 64 wo) (q_z 64 di) (q_z 64 ba) cp (nI 0) hi mi go) H := hP
        have hD : va_D A (mw ad ci cz li (q_z 5 ma) (q_z 64 wo) (q_z 64 di) (q_z 64 ba) cp (nI 0) hi mi go) := hD
        refine lv_aload_n hx hb dX2_init_2_60 rfl (lv_at hl 1 rfl) ?_
        refine lv_iconst (v := (nI 0)) hx hb dX2_init_2_61 (by decide) ?_
        refine va_put (D := (dC, dI)) (ci := 1) (v := .int (nI 0)) (ty := .int) (C := RX2) (T := TX2) (N := 10) hx hb hts in_X2 tyX2 tyX2_ok nmX2 hown hK hP hD hS 0 rfl rfl 7 (by decide) (hts _ q168) (fun _ h9 => h9) rfl (by decide +kernel) rfl rfl (Nat.le_of_ble_eq_true rfl) dX2_init_2_62 (fun H locs hP hD hS => ?_)
        have hP : va_P (dC, dI) vwCl (mw ad ci cz li (q_z 5 ma) (q_z 64 wo) (q_z 64 di) (q_z 64 ba) cp (nI 0) (nI 0) mi go) H := hP
        have hD : va_D A (mw ad ci cz li (q_z 5 ma) (q_z 64 wo) (q_z 64 di) (q_z 64 ba) cp (nI 0) (nI 0) mi go) := hD
        refine lv_aload_n hx hb dX2_init_2_65 rfl (lv_at hl 1 rfl) ?_
        refine lv_iconst (v := (nI 0)) hx hb dX2_init_2_66 (by decide) ?_
        refine va_put (D := (dC, dI)) (ci := 1) (v := .int (nI 0)) (ty := .int) (C := RX2) (T := TX2) (N := 10) hx hb hts in_X2 tyX2 tyX2_ok nmX2 hown hK hP hD hS 0 rfl rfl 8 (by decide) (hts _ q169) (fun _ h9 => h9) rfl (by decide +kernel) rfl rfl (Nat.le_of_ble_eq_true rfl) dX2_init_2_67 (fun H locs hP hD hS => ?_)
        have hP : va_P (dC, dI) vwCl (mw ad ci cz li (q_z 5 ma) (q_z 64 wo) (q_z 64 di) (q_z 64 ba) cp (nI 0) (nI 0) (nI 0) go) H := hP
        have hD : va_D A (mw ad ci cz li (q_z 5 ma) (q_z 64 wo) (q_z 64 di) (q_z 64 ba) cp (nI 0) (nI 0) (nI 0) go) := hD
        refine lv_aload_n hx hb dX2_init_2_70 rfl (lv_at hl 1 rfl) ?_
        refine lv_iconst (v := (nI 0)) hx hb dX2_init_2_71 (by decide) ?_
        refine va_put (D := (dC, dI)) (ci := 1) (v := .int (nI 0)) (ty := .int) (C := RX2) (T := TX2) (N := 10) hx hb hts in_X2 tyX2 tyX2_ok nmX2 hown hK hP hD hS 0 rfl rfl 9 (by decide) (hts _ q170) (fun _ h9 => h9) rfl (by decide +kernel) rfl rfl (Nat.le_of_ble_eq_true rfl) dX2_init_2_72 (fun H locs hP hD hS => ?_)
        have hP : va_P (dC, dI) vwCl (mw ad ci cz li (q_z 5 ma) (q_z 64 wo) (q_z 64 di) (q_z 64 ba) cp (nI 0) (nI 0) (nI 0) (nI 0)) H := hP
        have hD : va_D A (mw ad ci cz li (q_z 5 ma) (q_z 64 wo) (q_z 64 di) (q_z 64 ba) cp (nI 0) (nI 0) (nI 0) (nI 0)) := hD
        exact W.vret hx hb hr (fun t ht hW => ⟨⟨(li, (q_z 5 ma)), rfl, m_rep_0 li ma, by rw [ht]; exact hP, va_K.moved hW.alike hK, hD⟩, hS.F ht⟩) hS.2.2 dX2_init_2_75
      · refine lv_aload_n hx hb dX2_init_2_28 rfl (lv_at hl 1 rfl) ?_
        refine va_get (D := (dC, dI)) (ci := 1) (v := .ref (ad 3)) (C := RX2) (T := TX2) (N := 10) hx hb hts in_X2 hown hK hP 0 rfl rfl 3 (by decide) (hts _ q164) (fun _ h9 => h9) rfl dX2_init_2_29 ?_
        refine lv_iload_n hx hb dX2_init_2_32 rfl (lv_at hl 0 rfl) ?_
        refine lv_iconst (v := (nI 0)) hx hb dX2_init_2_33 (by decide) ?_
        refine q_iast (g := (q_z (i + 1) ba)) hx hb hK hP hD hS 3 0 rfl rfl (by omega) (by decide) (q_z_s ba i) dX2_init_2_34 (fun H locs hP hD hS => ?_)
        have hP : va_P (dC, dI) vwCl (mw ad ci cz li (q_z 5 ma) (q_z i wo) (q_z i di) (q_z (i + 1) ba) cp tg hi mi go) H := hP
        have hD : va_D A (mw ad ci cz li (q_z 5 ma) (q_z i wo) (q_z i di) (q_z (i + 1) ba) cp tg hi mi go) := hD
        refine lv_aload_n hx hb dX2_init_2_35 rfl (lv_at hl 1 rfl) ?_
        refine va_get (D := (dC, dI)) (ci := 1) (v := .ref (ad 4)) (C := RX2) (T := TX2) (N := 10) hx hb hts in_X2 hown hK hP 0 rfl rfl 4 (by decide) (hts _ q165) (fun _ h9 => h9) rfl dX2_init_2_36 ?_
        refine lv_iload_n hx hb dX2_init_2_39 rfl (lv_at hl 0 rfl) ?_
        refine lv_iconst (v := (nI 0)) hx hb dX2_init_2_40 (by decide) ?_
        refine q_iast (g := (q_z (i + 1) wo)) hx hb hK hP hD hS 4 0 rfl rfl (by omega) (by decide) (q_z_s wo i) dX2_init_2_41 (fun H locs hP hD hS => ?_)
        have hP : va_P (dC, dI) vwCl (mw ad ci cz li (q_z 5 ma) (q_z (i + 1) wo) (q_z i di) (q_z (i + 1) ba) cp tg hi mi go) H := hP
        have hD : va_D A (mw ad ci cz li (q_z 5 ma) (q_z (i + 1) wo) (q_z i di) (q_z (i + 1) ba) cp tg hi mi go) := hD
        refine lv_aload_n hx hb dX2_init_2_42 rfl (lv_at hl 1 rfl) ?_
        refine va_get (D := (dC, dI)) (ci := 1) (v := .ref (ad 5)) (C := RX2) (T := TX2) (N := 10) hx hb hts in_X2 hown hK hP 0 rfl rfl 5 (by decide) (hts _ q166) (fun _ h9 => h9) rfl dX2_init_2_43 ?_
        refine lv_iload_n hx hb dX2_init_2_46 rfl (lv_at hl 0 rfl) ?_
        refine lv_iconst (v := (nI 0)) hx hb dX2_init_2_47 (by decide) ?_
        refine q_zast (g := (q_z (i + 1) di)) hx hb hK hP hD hS 5 1 rfl rfl (by omega) (by decide) (by decide) (q_z_s di i) dX2_init_2_48 (fun H locs hP hD hS => ?_)
        have hP : va_P (dC, dI) vwCl (mw ad ci cz li (q_z 5 ma) (q_z (i + 1) wo) (q_z (i + 1) di) (q_z (i + 1) ba) cp tg hi mi go) H := hP
        have hD : va_D A (mw ad ci cz li (q_z 5 ma) (q_z (i + 1) wo) (q_z (i + 1) di) (q_z (i + 1) ba) cp tg hi mi go) := hD
        refine lv_iinc (v := (nI (i + 1))) (lv' := [(1, .int (nI (i + 1))), (0, .ref (ad 0))]) hx hb dX2_init_2_49 hl (k := 0) rfl (q_inc1 i) (by decide) rfl (fun ls hl => ?_)
        refine lv_goto (tgt := 22) hx hb dX2_init_2_52 (by decide) ?_
        exact ih (i + 1) (by omega) (by omega) H locs ls hP hD hS (lv_sub hl [0, 1] rfl)
  have loop1 : ∀ (n i : Nat), i ≤ 5 → 5 + 1 ≤ i + n → ∀ (H : Heap) (locs : List Loc) (ls : Array Slot), va_P (dC, dI) vwCl (mw ad ci cz li (q_z i ma) wo di ba cp tg hi mi go) H → va_D A (mw ad ci cz li (q_z i ma) wo di ba cp tg hi mi go) → va_S A s.heap H locs → lv_has ls 2 [(1, .int (nI i)), (0, .ref (ad 0))] → W p l e (headSpec wsX2_init_2 ({ frames := 0, cells := 0, slots := 0, locals := 0 })).room s m ([.ref (ad 0)] : List Value).toArray below meth c H locs 0 0 (MQ below (va_Qv (fun u : m_U => m_rep q_L0 u.1 u.2) (mB dC dI ci cz A ad (q_z 64 wo) (q_z 64 di) (q_z 64 ba) cp (nI 0) (nI 0) (nI 0) (nI 0)) A) ([.ref (ad 0)] : List Value).toArray s 0 0 A) (F0 m 2 ls []) := by
    intro n
    induction n with
    | zero => intro i h1 h2; exact absurd h2 (by omega)
    | succ n ih =>
      intro i hi9 hn9 H locs ls hP hD hS hl
      refine lv_iload_n hx hb dX2_init_2_2 rfl (lv_at hl 0 rfl) ?_
      refine lv_iconst (v := (nI 5)) hx hb dX2_init_2_3 (by decide) ?_
      refine q_icmp_ge (tgt := 20) hx hb (by omega) (by omega) dX2_init_2_4 (by decide) (fun hc => ?_) (fun hc => ?_)
      · obtain rfl : i = 5 := by omega
        refine lv_iconst (v := (nI 0)) hx hb dX2_init_2_20 (by decide) ?_
        refine lv_istore_n (lv' := [(1, .int (nI 0)), (0, .ref (ad 0))]) hx hb dX2_init_2_21 rfl hl (by decide) rfl (fun ls hl => ?_)
        exact loop2 65 0 (by omega) (by omega) _ _ ls (by rw [q_z_0 wo, q_z_0 di, q_z_0 ba]; exact hP) (by rw [q_z_0 wo, q_z_0 di, q_z_0 ba]; exact hD) hS (lv_sub hl [0, 1] rfl)
      · refine lv_aload_n hx hb dX2_init_2_7 rfl (lv_at hl 1 rfl) ?_
        refine va_get (D := (dC, dI)) (ci := 1) (v := .ref (ad 2)) (C := RX2) (T := TX2) (N := 10) hx hb hts in_X2 hown hK hP 0 rfl rfl 2 (by decide) (hts _ q163) (fun _ h9 => h9) rfl dX2_init_2_8 ?_
        refine lv_iload_n hx hb dX2_init_2_11 rfl (lv_at hl 0 rfl) ?_
        refine lv_iconst (v := (nI 0)) hx hb dX2_init_2_12 (by decide) ?_
        refine q_iast (g := (q_z (i + 1) ma)) hx hb hK hP hD hS 2 0 rfl rfl (by omega) (by decide) (q_z_s ma i) dX2_init_2_13 (fun H locs hP hD hS => ?_)
        have hP : va_P (dC, dI) vwCl (mw ad ci cz li (q_z (i + 1) ma) wo di ba cp tg hi mi go) H := hP
        have hD : va_D A (mw ad ci cz li (q_z (i + 1) ma) wo di ba cp tg hi mi go) := hD
        refine lv_iinc (v := (nI (i + 1))) (lv' := [(1, .int (nI (i + 1))), (0, .ref (ad 0))]) hx hb dX2_init_2_14 hl (k := 0) rfl (q_inc1 i) (by decide) rfl (fun ls hl => ?_)
        refine lv_goto (tgt := 2) hx hb dX2_init_2_17 (by decide) ?_
        exact ih (i + 1) (by omega) (by omega) H locs ls hP hD hS (lv_sub hl [0, 1] rfl)
  refine lv_iconst (v := (nI 0)) hx hb dX2_init_2_0 (by decide) ?_
  refine lv_istore_n (lv' := [(1, .int (nI 0)), (0, .ref (ad 0))]) hx hb dX2_init_2_1 rfl hl (by decide) rfl (fun ls hl => ?_)
  exact loop1 6 0 (by omega) (by omega) _ _ ls (by rw [q_z_0]; exact hP) (by rw [q_z_0]; exact hD) hS (lv_sub hl [0, 1] rfl)
end
section
/-! PURE: the capacity; what the calls of the law keep -/
def q_r24 (v : Int32) : Int32 := v - v / nI 24 * nI 24
def q_cap (v : Int32) : Int32 := nI 1 + (if 0 ≤ q_r24 v then q_r24 v else q_r24 v + nI 24)
theorem q_r24_int (v : Int32) : (q_r24 v).toInt = v.toInt - 24 * v.toInt.tdiv 24 ∧ -24 < (q_r24 v).toInt ∧ (q_r24 v).toInt < 24 := by
  have h24 : (nI 24).toInt = 24 := nI_toInt (by decide)
  have h1 := Int.tmod_lt_of_pos v.toInt (show (0 : Int) < 24 by decide)
  have h2 := Int.lt_tmod_of_pos v.toInt (show (0 : Int) < 24 by decide)
  rw [Int.tmod_def] at h1 h2
  have e : (q_r24 v).toInt = v.toInt - 24 * v.toInt.tdiv 24 := by
    unfold q_r24
    rw [Int32.toInt_sub, Int32.toInt_mul, Int32.toInt_div, h24, Int.bmod_mul_bmod, Int.sub_bmod_bmod, Int.mul_comm]
    generalize v.toInt - 24 * v.toInt.tdiv 24 = z at h1 h2
    exact Int.bmod_eq_of_le (by omega) (by omega)
  rw [e]
  exact ⟨rfl, h2, h1⟩
theorem q_cap_ok (v : Int32) : ∃ cp : Nat, 1 ≤ cp ∧ cp ≤ 24 ∧ q_cap v = nI cp := by
  obtain ⟨-, h1, h2⟩ := q_r24_int v
  unfold q_cap
  by_cases h : 0 ≤ q_r24 v
  · rw [if_pos h]
    have h3 := q_leI.mp h
    have h4 : (0 : Int32).toInt = 0 := rfl
    rw [h4] at h3
    obtain ⟨j, -, hj, e⟩ := q_rng (v := q_r24 v) (a := 0) (b := 24) h3 h2 (by decide)
    exact ⟨1 + j, by omega, by omega, by rw [e, nI_add]⟩
  · rw [if_neg h]
    have h3 : ¬ (0 : Int32).toInt ≤ (q_r24 v).toInt := fun q => h (q_leI.mpr q)
    have h4 : (0 : Int32).toInt = 0 := rfl
    rw [h4] at h3
    have h5 : (q_r24 v + nI 24).toInt = (q_r24 v).toInt + 24 := by
      rw [Int32.toInt_add, nI_toInt (by decide)]
      exact Int.bmod_eq_of_le (by omega) (by omega)
    obtain ⟨j, hj0, hj, e⟩ := q_rng (v := q_r24 v + nI 24) (a := 0) (b := 24) (by omega) (by omega) (by decide)
    exact ⟨1 + j, by omega, by omega, by rw [e, nI_add]⟩
theorem q_rd_ok {cp : Nat} {v : Int32} {L : Nat → List Nat} {wo ba di : Nat → Int32} {tg : Nat} {hi mi go : Int32} (h : q_inv cp L di tg) : q_inv cp (q_rd cp v L wo ba di tg hi mi go).2.1 (q_rd cp v L wo ba di tg hi mi go).2.2.2.2.1 (q_rd cp v L wo ba di tg hi mi go).2.2.2.2.2.1 := by
  by_cases hv : ∃ j : Nat, j < 64 ∧ v = nI j
  · obtain ⟨j, hj, e⟩ := hv
    subst e
    rw [q_rd_in hj]
    exact (q_rq_ok h hj).1
  · rw [q_rd_out (fun j hj e => hv ⟨j, hj, e⟩)]
    exact h
theorem q_wr_ok {cp : Nat} {v x : Int32} {L : Nat → List Nat} {wo ba di : Nat → Int32} {tg : Nat} {hi mi go : Int32} (h : q_inv cp L di tg) : q_inv cp (q_wr cp v x L wo ba di tg hi mi go).2.1 (q_wr cp v x L wo ba di tg hi mi go).2.2.2.2.1 (q_wr cp v x L wo ba di tg hi mi go).2.2.2.2.2.1 := by
  by_cases hv : ∃ j : Nat, j < 64 ∧ v = nI j
  · obtain ⟨j, hj, e⟩ := hv
    subst e
    rw [q_wr_in hj]
    obtain ⟨⟨⟨g1, g2⟩, g3, g4⟩, g5⟩ := q_rq_ok (wo := wo) (ba := ba) (hi := hi) (mi := mi) (go := go) h hj
    refine ⟨⟨g1, fun a h1 h2 => ?_⟩, g3, g4⟩
    show upd (q_rq cp j L wo ba di tg hi mi go).2.2.2.1 j (nI 1) a = nI 0
    rw [pk_un (fun e => ?_)]
    · exact g2 a h1 h2
    · subst e
      rcases g5 with g5 | g5
      · exact h1 g5
      · exact h2 g5
  · rw [q_wr_out (fun j hj e => hv ⟨j, hj, e⟩)]
    exact h
theorem q_inv_z {cp tg : Nat} {L : Nat → List Nat} {di : Nat → Int32} (h : q_inv cp L di tg) (a : Nat) : q_z 64 di a = nI 0 := by
  by_cases ha : a < 64
  · exact q_z_in di ha
  · have h1 : q_wh L a = 0 := q_wh_0 (fun k hk => ha (h.1.1.2.1 k a hk).1)
    have h2 : di a = nI 0 := h.1.2 a (by rw [h1]; decide) (by rw [h1]; decide)
    unfold q_z
    rw [if_neg ha]
    exact h2
theorem q_fl_ok {cp tg : Nat} {L : Nat → List Nat} {di : Nat → Int32} (h : q_inv cp L di tg) : q_inv cp L (q_z 64 di) tg := ⟨⟨h.1.1, fun a _ _ => q_inv_z h a⟩, h.2⟩
theorem q_in_ok {cp tg : Nat} {L : Nat → List Nat} {di : Nat → Int32} (h : q_inv cp L di tg) : q_inv cp q_L0 (q_z 64 di) 0 := q_inv_0 h.2.1.1 h.2.1.2.1 (q_inv_z h)
theorem q_same {D : va_G} {cl : List vw_C} {tys : List (ClassId × FieldType)} {U : State} (h : va_K D cl tys U) (i j : Nat) {c1 c2 : ClassId} (h1 : tys[i]? = some (c1, .int)) (h2 : tys[j]? = some (c2, .int)) : c1 = c2 := by
  have a1 : U.vm.findClass ("[" ++ FieldType.int.toString) = some c1 := (h.2 i _ h1).2
  have a2 : U.vm.findClass ("[" ++ FieldType.int.toString) = some c2 := (h.2 j _ h2).2
  exact Option.some.inj (a1.symm.trans a2)
theorem q_sameZ {D : va_G} {cl : List vw_C} {tys : List (ClassId × FieldType)} {U : State} (h : va_K D cl tys U) (i j : Nat) {c1 c2 : ClassId} (h1 : tys[i]? = some (c1, .boolean)) (h2 : tys[j]? = some (c2, .boolean)) : c1 = c2 := by
  have a1 : U.vm.findClass ("[" ++ FieldType.boolean.toString) = some c1 := (h.2 i _ h1).2
  have a2 : U.vm.findClass ("[" ++ FieldType.boolean.toString) = some c2 := (h.2 j _ h2).2
  exact Option.some.inj (a1.symm.trans a2)
end
section
abbrev wsX1_init : List Cond := ws_ yX1_init cX1_init 3 none
abbrev x_f0 : List Value := [.null, .null, .null, .null, .null, .null, .null, .int (nI 0), .int (nI 0), .int (nI 0), .int (nI 0), .int (nI 0)]
set_option maxHeartbeats 4000000 in
set_option maxRecDepth 100000 in
theorem metX1_init (l : Launch) (dC : Nat → ClassId) (dI : Nat → Nat → Nat) (h0 sz : Nat) (v : Int32) : Met l yX1_init wsX1_init ({ frames := 1, cells := 7, slots := 399, locals := 21 }) (va_Pc [.ref h0, .int v] (fun U => U.heap.size = sz ∧ va_P (dC, dI) vwCl [(h0, .inr (0, x_f0))] U.heap ∧ va_K (dC, dI) vwCl [] U ∧ va_D (fun _ => True) [(h0, .inr (0, x_f0))])) (va_Qv (fun u : (Nat → Nat) × ClassId × ClassId × x_U => u.1 0 = h0 ∧ x_rep q_L0 u.2.2.2.1 u.2.2.2.2.1 u.2.2.2.2.2.1 u.2.2.2.2.2.2) (fun u t => q_Post dC dI u.2.1 u.2.2.1 (va_A [(h0, .inr (0, x_f0))] sz) (xw u.1 u.2.1 u.2.2.1 u.2.2.2.1 u.2.2.2.2.1 u.2.2.2.2.2.1 u.2.2.2.2.2.2 (fun _ => nI 0) (fun _ => nI 0) (fun _ => nI 0) (q_cap v) (nI 0) (nI 0) (nI 0) (nI 0)) t) (va_A [(h0, .inr (0, x_f0))] sz)) 7 399 (va_A [(h0, .inr (0, x_f0))] sz) := by
  refine Met.ofW (cc := cX1_init) (maxL := 3) (ret := none) (by decide) rfl ?_
  intro p e s m args below meth c s₁ B hml hv
  obtain ⟨rfl, hsz, hP, hK, hD0⟩ := hv
  have hx := B.exec
  have hb := B.bytes
  have hr := B.returns
  have hts := atoms_spec (ws := wsX1_init) B.pre
  have hts : ∀ w ∈ lw_all, w.before _ s = true := fun w h => hts w (List.mem_cons_of_mem _ h)
  have hown : s.vm.findClass RX1 = some m.cls := findClass_of_methodNamed B.named
  have hlocks := B.notSynchronized
  have hin : meth.name = "<init>" := (name_of_methodNamed B.named B.method).1
  subst hsz
  have hD := hD0.self (sz := s.heap.size)
  generalize hAe : va_A [(h0, .inr (0, x_f0))] s.heap.size = A at hD ⊢
  have hA : ∀ q : Nat, s.heap.size ≤ q → A q := fun q h => by rw [← hAe]; exact Or.inr h
  have hS : va_S A s.heap s.heap [] := va_S.rf
  have hl := lv_entry ([.ref h0, .int v]) (n := 3) (Nat.le_of_ble_eq_true rfl)
  rw [lg_entry_eq]
  generalize (lg_sl ([.ref h0, .int v]) ++ List.replicate (3 - (lg_sl ([.ref h0, .int v])).length) Slot.unset).toArray = ls at hl ⊢
  have hl : lv_has ls 3 [(0, .ref h0), (1, .int v)] := hl
  refine lv_aload_n hx hb dX1_init_0 rfl (lv_at hl 0 rfl) ?_
  refine W.objInit hx hb hown (hts _ q23) (hts _ q24) (hts _ q25) rfl (by rw [hml]; exact hl.1) rfl dX1_init_1 (Nat.le_of_ble_eq_true rfl) (Nat.le_of_ble_eq_true rfl) ?_
  refine W.eq (g2 := F0 m 4 ls []) rfl ?_
  refine lv_aload_n hx hb dX1_init_4 rfl (lv_at hl 0 rfl) ?_
  refine lv_bipush (v := (nI 69)) hx hb dX1_init_5 (by decide) ?_
  refine va_newa (atype := .int) hx hb (hts _ q67) (ty := .int) rfl hK hP hD hS hA (n := nI 69) (N' := 69) (a0 := (69, .inl (fun _ => nI 0))) (fun cA => rfl) (by decide) (by decide) (by decide) (Nat.le_of_ble_eq_true rfl) (Nat.le_of_ble_eq_true rfl) dX1_init_7 (fun a1 ci H hK hP hD hS => ?_)
  refine W.widen (k := 1) (n := 69) (by omega) (by omega) ?_
  have hK : va_K (dC, dI) vwCl [(ci, .int)] s := hK
  have hP : va_P (dC, dI) vwCl [(h0, .inr (0, [.null, .null, .null, .null, .null, .null, .null, .int (nI 0), .int (nI 0), .int (nI 0), .int (nI 0), .int (nI 0)])), (a1, .inl (ci, 69, .inl (fun _ => nI 0)))] H := hP
  have hD : va_D A [(h0, .inr (0, [.null, .null, .null, .null, .null, .null, .null, .int (nI 0), .int (nI 0), .int (nI 0), .int (nI 0), .int (nI 0)])), (a1, .inl (ci, 69, .inl (fun _ => nI 0)))] := hD
  refine va_putF (D := (dC, dI)) (ci := 0) (v := .ref a1) (ty := .array .int) (C := RX1) (T := TX1) (N := 12) hx hb hts in_X1 tyX1 tyX1_ok nmX1 hown hK hP hD hS 0 rfl rfl 0 (by decide) (hts _ q30) (fun _ h9 => h9) rfl hin rfl (by decide +kernel) rfl rfl (Nat.le_of_ble_eq_true rfl) dX1_init_9 (fun H locs hP hD hS => ?_)
  have hP : va_P (dC, dI) vwCl [(h0, .inr (0, [.ref a1, .null, .null, .null, .null, .null, .null, .int (nI 0), .int (nI 0), .int (nI 0), .int (nI 0), .int (nI 0)])), (a1, .inl (ci, 69, .inl (fun _ => nI 0)))] H := hP
  have hD : va_D A [(h0, .inr (0, [.ref a1, .null, .null, .null, .null, .null, .null, .int (nI 0), .int (nI 0), .int (nI 0), .int (nI 0), .int (nI 0)])), (a1, .inl (ci, 69, .inl (fun _ => nI 0)))] := hD
  refine lv_aload_n hx hb dX1_init_12 rfl (lv_at hl 0 rfl) ?_
  refine lv_bipush (v := (nI 69)) hx hb dX1_init_13 (by decide) ?_
  refine va_newa (atype := .int) hx hb (hts _ q67) (ty := .int) rfl hK hP hD hS hA (n := nI 69) (N' := 69) (a0 := (69, .inl (fun _ => nI 0))) (fun cA => rfl) (by decide) (by decide) (by decide) (Nat.le_of_ble_eq_true rfl) (Nat.le_of_ble_eq_true rfl) dX1_init_15 (fun a2 c2 H hK hP hD hS => ?_)
  refine W.widen (k := 2) (n := 138) (by omega) (by omega) ?_
  have hK : va_K (dC, dI) vwCl [(ci, .int), (c2, .int)] s := hK
  have hP : va_P (dC, dI) vwCl [(h0, .inr (0, [.ref a1, .null, .null, .null, .null, .null, .null, .int (nI 0), .int (nI 0), .int (nI 0), .int (nI 0), .int (nI 0)])), (a1, .inl (ci, 69, .inl (fun _ => nI 0))), (a2, .inl (c2, 69, .inl (fun _ => nI 0)))] H := hP
  have hD : va_D A [(h0, .inr (0, [.ref a1, .null, .null, .null, .null, .null, .null, .int (nI 0), .int (nI 0), .int (nI 0), .int (nI 0), .int (nI 0)])), (a1, .inl (ci, 69, .inl (fun _ => nI 0))), (a2, .inl (c2, 69, .inl (fun _ => nI 0)))] := hD
  refine va_putF (D := (dC, dI)) (ci := 0) (v := .ref a2) (ty := .array .int) (C := RX1) (T := TX1) (N := 12) hx hb hts in_X1 tyX1 tyX1_ok nmX1 hown hK hP hD hS 0 rfl rfl 1 (by decide) (hts _ q31) (fun _ h9 => h9) rfl hin rfl (by decide +kernel) rfl rfl (Nat.le_of_ble_eq_true rfl) dX1_init_17 (fun H locs hP hD hS => ?_)
  have hP : va_P (dC, dI) vwCl [(h0, .inr (0, [.ref a1, .ref a2, .null, .null, .null, .null, .null, .int (nI 0), .int (nI 0), .int (nI 0), .int (nI 0), .int (nI 0)])), (a1, .inl (ci, 69, .inl (fun _ => nI 0))), (a2, .inl (c2, 69, .inl (fun _ => nI 0)))] H := hP
  have hD : va_D A [(h0, .inr (0, [.ref a1, .ref a2, .null, .null, .null, .null, .null, .int (nI 0), .int (nI 0), .int (nI 0), .int (nI 0), .int (nI 0)])), (a1, .inl (ci, 69, .inl (fun _ => nI 0))), (a2, .inl (c2, 69, .inl (fun _ => nI 0)))] := hD
  refine lv_aload_n hx hb dX1_init_20 rfl (lv_at hl 0 rfl) ?_
  refine lv_bipush (v := (nI 64)) hx hb dX1_init_21 (by decide) ?_
  refine va_newa (atype := .int) hx hb (hts _ q67) (ty := .int) rfl hK hP hD hS hA (n := nI 64) (N' := 64) (a0 := (64, .inl (fun _ => nI 0))) (fun cA => rfl) (by decide) (by decide) (by decide) (Nat.le_of_ble_eq_true rfl) (Nat.le_of_ble_eq_true rfl) dX1_init_23 (fun a3 c3 H hK hP hD hS => ?_)
  refine W.widen (k := 3) (n := 202) (by omega) (by omega) ?_
  have hK : va_K (dC, dI) vwCl [(ci, .int), (c2, .int), (c3, .int)] s := hK
  have hP : va_P (dC, dI) vwCl [(h0, .inr (0, [.ref a1, .ref a2, .null, .null, .null, .null, .null, .int (nI 0), .int (nI 0), .int (nI 0), .int (nI 0), .int (nI 0)])), (a1, .inl (ci, 69, .inl (fun _ => nI 0))), (a2, .inl (c2, 69, .inl (fun _ => nI 0))), (a3, .inl (c3, 64, .inl (fun _ => nI 0)))] H := hP
  have hD : va_D A [(h0, .inr (0, [.ref a1, .ref a2, .null, .null, .null, .null, .null, .int (nI 0), .int (nI 0), .int (nI 0), .int (nI 0), .int (nI 0)])), (a1, .inl (ci, 69, .inl (fun _ => nI 0))), (a2, .inl (c2, 69, .inl (fun _ => nI 0))), (a3, .inl (c3, 64, .inl (fun _ => nI 0)))] := hD
  refine va_putF (D := (dC, dI)) (ci := 0) (v := .ref a3) (ty := .array .int) (C := RX1) (T := TX1) (N := 12) hx hb hts in_X1 tyX1 tyX1_ok nmX1 hown hK hP hD hS 0 rfl rfl 2 (by decide) (hts _ q32) (fun _ h9 => h9) rfl hin rfl (by decide +kernel) rfl rfl (Nat.le_of_ble_eq_true rfl) dX1_init_25 (fun H locs hP hD hS => ?_)
  have hP : va_P (dC, dI) vwCl [(h0, .inr (0, [.ref a1, .ref a2, .ref a3, .null, .null, .null, .null, .int (nI 0), .int (nI 0), .int (nI 0), .int (nI 0), .int (nI 0)])), (a1, .inl (ci, 69, .inl (fun _ => nI 0))), (a2, .inl (c2, 69, .inl (fun _ => nI 0))), (a3, .inl (c3, 64, .inl (fun _ => nI 0)))] H := hP
  have hD : va_D A [(h0, .inr (0, [.ref a1, .ref a2, .ref a3, .null, .null, .null, .null, .int (nI 0), .int (nI 0), .int (nI 0), .int (nI 0), .int (nI 0)])), (a1, .inl (ci, 69, .inl (fun _ => nI 0))), (a2, .inl (c2, 69, .inl (fun _ => nI 0))), (a3, .inl (c3, 64, .inl (fun _ => nI 0)))] := hD
  refine lv_aload_n hx hb dX1_init_28 rfl (lv_at hl 0 rfl) ?_
  refine lv_iconst (v := (nI 5)) hx hb dX1_init_29 (by decide) ?_
  refine va_newa (atype := .int) hx hb (hts _ q67) (ty := .int) rfl hK hP hD hS hA (n := nI 5) (N' := 5) (a0 := (5, .inl (fun _ => nI 0))) (fun cA => rfl) (by decide) (by decide) (by decide) (Nat.le_of_ble_eq_true rfl) (Nat.le_of_ble_eq_true rfl) dX1_init_30 (fun a4 c4 H hK hP hD hS => ?_)
  refine W.widen (k := 4) (n := 207) (by omega) (by omega) ?_
  have hK : va_K (dC, dI) vwCl [(ci, .int), (c2, .int), (c3, .int), (c4, .int)] s := hK
  have hP : va_P (dC, dI) vwCl [(h0, .inr (0, [.ref a1, .ref a2, .ref a3, .null, .null, .null, .null, .int (nI 0), .int (nI 0), .int (nI 0), .int (nI 0), .int (nI 0)])), (a1, .inl (ci, 69, .inl (fun _ => nI 0))), (a2, .inl (c2, 69, .inl (fun _ => nI 0))), (a3, .inl (c3, 64, .inl (fun _ => nI 0))), (a4, .inl (c4, 5, .inl (fun _ => nI 0)))] H := hP
  have hD : va_D A [(h0, .inr (0, [.ref a1, .ref a2, .ref a3, .null, .null, .null, .null, .int (nI 0), .int (nI 0), .int (nI 0), .int (nI 0), .int (nI 0)])), (a1, .inl (ci, 69, .inl (fun _ => nI 0))), (a2, .inl (c2, 69, .inl (fun _ => nI 0))), (a3, .inl (c3, 64, .inl (fun _ => nI 0))), (a4, .inl (c4, 5, .inl (fun _ => nI 0)))] := hD
  refine va_putF (D := (dC, dI)) (ci := 0) (v := .ref a4) (ty := .array .int) (C := RX1) (T := TX1) (N := 12) hx hb hts in_X1 tyX1 tyX1_ok nmX1 hown hK hP hD hS 0 rfl rfl 3 (by decide) (hts _ q33) (fun _ h9 => h9) rfl hin rfl (by decide +kernel) rfl rfl (Nat.le_of_ble_eq_true rfl) dX1_init_32 (fun H locs hP hD hS => ?_)
  have hP : va_P (dC, dI) vwCl [(h0, .inr (0, [.ref a1, .ref a2, .ref a3, .ref a4, .null, .null, .null, .int (nI 0), .int (nI 0), .int (nI 0), .int (nI 0), .int (nI 0)])), (a1, .inl (ci, 69, .inl (fun _ => nI 0))), (a2, .inl (c2, 69, .inl (fun _ => nI 0))), (a3, .inl (c3, 64, .inl (fun _ => nI 0))), (a4, .inl (c4, 5, .inl (fun _ => nI 0)))] H := hP
  have hD : va_D A [(h0, .inr (0, [.ref a1, .ref a2, .ref a3, .ref a4, .null, .null, .null, .int (nI 0), .int (nI 0), .int (nI 0), .int (nI 0), .int (nI 0)])), (a1, .inl (ci, 69, .inl (fun _ => nI 0))), (a2, .inl (c2, 69, .inl (fun _ => nI 0))), (a3, .inl (c3, 64, .inl (fun _ => nI 0))), (a4, .inl (c4, 5, .inl (fun _ => nI 0)))] := hD
  refine lv_aload_n hx hb dX1_init_35 rfl (lv_at hl 0 rfl) ?_
  refine lv_bipush (v := (nI 64)) hx hb dX1_init_36 (by decide) ?_
  refine va_newa (atype := .int) hx hb (hts _ q67) (ty := .int) rfl hK hP hD hS hA (n := nI 64) (N' := 64) (a0 := (64, .inl (fun _ => nI 0))) (fun cA => rfl) (by decide) (by decide) (by decide) (Nat.le_of_ble_eq_true rfl) (Nat.le_of_ble_eq_true rfl) dX1_init_38 (fun a5 c5 H hK hP hD hS => ?_)
  refine W.widen (k := 5) (n := 271) (by omega) (by omega) ?_
  have hK : va_K (dC, dI) vwCl [(ci, .int), (c2, .int), (c3, .int), (c4, .int), (c5, .int)] s := hK
  have hP : va_P (dC, dI) vwCl [(h0, .inr (0, [.ref a1, .ref a2, .ref a3, .ref a4, .null, .null, .null, .int (nI 0), .int (nI 0), .int (nI 0), .int (nI 0), .int (nI 0)])), (a1, .inl (ci, 69, .inl (fun _ => nI 0))), (a2, .inl (c2, 69, .inl (fun _ => nI 0))), (a3, .inl (c3, 64, .inl (fun _ => nI 0))), (a4, .inl (c4, 5, .inl (fun _ => nI 0))), (a5, .inl (c5, 64, .inl (fun _ => nI 0)))] H := hP
  have hD : va_D A [(h0, .inr (0, [.ref a1, .ref a2, .ref a3, .ref a4, .null, .null, .null, .int (nI 0), .int (nI 0), .int (nI 0), .int (nI 0), .int (nI 0)])), (a1, .inl (ci, 69, .inl (fun _ => nI 0))), (a2, .inl (c2, 69, .inl (fun _ => nI 0))), (a3, .inl (c3, 64, .inl (fun _ => nI 0))), (a4, .inl (c4, 5, .inl (fun _ => nI 0))), (a5, .inl (c5, 64, .inl (fun _ => nI 0)))] := hD
  refine va_putF (D := (dC, dI)) (ci := 0) (v := .ref a5) (ty := .array .int) (C := RX1) (T := TX1) (N := 12) hx hb hts in_X1 tyX1 tyX1_ok nmX1 hown hK hP hD hS 0 rfl rfl 4 (by decide) (hts _ q34) (fun _ h9 => h9) rfl hin rfl (by decide +kernel) rfl rfl (Nat.le_of_ble_eq_true rfl) dX1_init_40 (fun H locs hP hD hS => ?_)
  have hP : va_P (dC, dI) vwCl [(h0, .inr (0, [.ref a1, .ref a2, .ref a3, .ref a4, .ref a5, .null, .null, .int (nI 0), .int (nI 0), .int (nI 0), .int (nI 0), .int (nI 0)])), (a1, .inl (ci, 69, .inl (fun _ => nI 0))), (a2, .inl (c2, 69, .inl (fun _ => nI 0))), (a3, .inl (c3, 64, .inl (fun _ => nI 0))), (a4, .inl (c4, 5, .inl (fun _ => nI 0))), (a5, .inl (c5, 64, .inl (fun _ => nI 0)))] H := hP
  have hD : va_D A [(h0, .inr (0, [.ref a1, .ref a2, .ref a3, .ref a4, .ref a5, .null, .null, .int (nI 0), .int (nI 0), .int (nI 0), .int (nI 0), .int (nI 0)])), (a1, .inl (ci, 69, .inl (fun _ => nI 0))), (a2, .inl (c2, 69, .inl (fun _ => nI 0))), (a3, .inl (c3, 64, .inl (fun _ => nI 0))), (a4, .inl (c4, 5, .inl (fun _ => nI 0))), (a5, .inl (c5, 64, .inl (fun _ => nI 0)))] := hD
  refine lv_aload_n hx hb dX1_init_43 rfl (lv_at hl 0 rfl) ?_
  refine lv_bipush (v := (nI 64)) hx hb dX1_init_44 (by decide) ?_
  refine va_newa (atype := .boolean) hx hb (hts _ q68) (ty := .boolean) rfl hK hP hD hS hA (n := nI 64) (N' := 64) (a0 := (64, .inl (fun _ => nI 0))) (fun cA => rfl) (by decide) (by decide) (by decide) (Nat.le_of_ble_eq_true rfl) (Nat.le_of_ble_eq_true rfl) dX1_init_46 (fun a6 cz H hK hP hD hS => ?_)
  refine W.widen (k := 6) (n := 335) (by omega) (by omega) ?_
  have hK : va_K (dC, dI) vwCl [(ci, .int), (c2, .int), (c3, .int), (c4, .int), (c5, .int), (cz, .boolean)] s := hK
  have hP : va_P (dC, dI) vwCl [(h0, .inr (0, [.ref a1, .ref a2, .ref a3, .ref a4, .ref a5, .null, .null, .int (nI 0), .int (nI 0), .int (nI 0), .int (nI 0), .int (nI 0)])), (a1, .inl (ci, 69, .inl (fun _ => nI 0))), (a2, .inl (c2, 69, .inl (fun _ => nI 0))), (a3, .inl (c3, 64, .inl (fun _ => nI 0))), (a4, .inl (c4, 5, .inl (fun _ => nI 0))), (a5, .inl (c5, 64, .inl (fun _ => nI 0))), (a6, .inl (cz, 64, .inl (fun _ => nI 0)))] H := hP
  have hD : va_D A [(h0, .inr (0, [.ref a1, .ref a2, .ref a3, .ref a4, .ref a5, .null, .null, .int (nI 0), .int (nI 0), .int (nI 0), .int (nI 0), .int (nI 0)])), (a1, .inl (ci, 69, .inl (fun _ => nI 0))), (a2, .inl (c2, 69, .inl (fun _ => nI 0))), (a3, .inl (c3, 64, .inl (fun _ => nI 0))), (a4, .inl (c4, 5, .inl (fun _ => nI 0))), (a5, .inl (c5, 64, .inl (fun _ => nI 0))), (a6, .inl (cz, 64, .inl (fun _ => nI 0)))] := hD
  refine va_putF (D := (dC, dI)) (ci := 0) (v := .ref a6) (ty := .array .boolean) (C := RX1) (T := TX1) (N := 12) hx hb hts in_X1 tyX1 tyX1_ok nmX1 hown hK hP hD hS 0 rfl rfl 5 (by decide) (hts _ q35) (fun _ h9 => h9) rfl hin rfl (by decide +kernel) rfl rfl (Nat.le_of_ble_eq_true rfl) dX1_init_48 (fun H locs hP hD hS => ?_)
  have hP : va_P (dC, dI) vwCl [(h0, .inr (0, [.ref a1, .ref a2, .ref a3, .ref a4, .ref a5, .ref a6, .null, .int (nI 0), .int (nI 0), .int (nI 0), .int (nI 0), .int (nI 0)])), (a1, .inl (ci, 69, .inl (fun _ => nI 0))), (a2, .inl (c2, 69, .inl (fun _ => nI 0))), (a3, .inl (c3, 64, .inl (fun _ => nI 0))), (a4, .inl (c4, 5, .inl (fun _ => nI 0))), (a5, .inl (c5, 64, .inl (fun _ => nI 0))), (a6, .inl (cz, 64, .inl (fun _ => nI 0)))] H := hP
  have hD : va_D A [(h0, .inr (0, [.ref a1, .ref a2, .ref a3, .ref a4, .ref a5, .ref a6, .null, .int (nI 0), .int (nI 0), .int (nI 0), .int (nI 0), .int (nI 0)])), (a1, .inl (ci, 69, .inl (fun _ => nI 0))), (a2, .inl (c2, 69, .inl (fun _ => nI 0))), (a3, .inl (c3, 64, .inl (fun _ => nI 0))), (a4, .inl (c4, 5, .inl (fun _ => nI 0))), (a5, .inl (c5, 64, .inl (fun _ => nI 0))), (a6, .inl (cz, 64, .inl (fun _ => nI 0)))] := hD
  refine lv_aload_n hx hb dX1_init_51 rfl (lv_at hl 0 rfl) ?_
  refine lv_bipush (v := (nI 64)) hx hb dX1_init_52 (by decide) ?_
  refine va_newa (atype := .int) hx hb (hts _ q67) (ty := .int) rfl hK hP hD hS hA (n := nI 64) (N' := 64) (a0 := (64, .inl (fun _ => nI 0))) (fun cA => rfl) (by decide) (by decide) (by decide) (Nat.le_of_ble_eq_true rfl) (Nat.le_of_ble_eq_true rfl) dX1_init_54 (fun a7 c7 H hK hP hD hS => ?_)
  refine W.widen (k := 7) (n := 399) (by omega) (by omega) ?_
  have hK : va_K (dC, dI) vwCl [(ci, .int), (c2, .int), (c3, .int), (c4, .int), (c5, .int), (cz, .boolean), (c7, .int)] s := hK
  have hP : va_P (dC, dI) vwCl [(h0, .inr (0, [.ref a1, .ref a2, .ref a3, .ref a4, .ref a5, .ref a6, .null, .int (nI 0), .int (nI 0), .int (nI 0), .int (nI 0), .int (nI 0)])), (a1, .inl (ci, 69, .inl (fun _ => nI 0))), (a2, .inl (c2, 69, .inl (fun _ => nI 0))), (a3, .inl (c3, 64, .inl (fun _ => nI 0))), (a4, .inl (c4, 5, .inl (fun _ => nI 0))), (a5, .inl (c5, 64, .inl (fun _ => nI 0))), (a6, .inl (cz, 64, .inl (fun _ => nI 0))), (a7, .inl (c7, 64, .inl (fun _ => nI 0)))] H := hP
  have hD : va_D A [(h0, .inr (0, [.ref a1, .ref a2, .ref a3, .ref a4, .ref a5, .ref a6, .null, .int (nI 0), .int (nI 0), .int (nI 0), .int (nI 0), .int (nI 0)])), (a1, .inl (ci, 69, .inl (fun _ => nI 0))), (a2, .inl (c2, 69, .inl (fun _ => nI 0))), (a3, .inl (c3, 64, .inl (fun _ => nI 0))), (a4, .inl (c4, 5, .inl (fun _ => nI 0))), (a5, .inl (c5, 64, .inl (fun _ => nI 0))), (a6, .inl (cz, 64, .inl (fun _ => nI 0))), (a7, .inl (c7, 64, .inl (fun _ => nI 0)))] := hD
  refine va_putF (D := (dC, dI)) (ci := 0) (v := .ref a7) (ty := .array .int) (C := RX1) (T := TX1) (N := 12) hx hb hts in_X1 tyX1 tyX1_ok nmX1 hown hK hP hD hS 0 rfl rfl 6 (by decide) (hts _ q36) (fun _ h9 => h9) rfl hin rfl (by decide +kernel) rfl rfl (Nat.le_of_ble_eq_true rfl) dX1_init_56 (fun H locs hP hD hS => ?_)
  have hP : va_P (dC, dI) vwCl [(h0, .inr (0, [.ref a1, .ref a2, .ref a3, .ref a4, .ref a5, .ref a6, .ref a7, .int (nI 0), .int (nI 0), .int (nI 0), .int (nI 0), .int (nI 0)])), (a1, .inl (ci, 69, .inl (fun _ => nI 0))), (a2, .inl (c2, 69, .inl (fun _ => nI 0))), (a3, .inl (c3, 64, .inl (fun _ => nI 0))), (a4, .inl (c4, 5, .inl (fun _ => nI 0))), (a5, .inl (c5, 64, .inl (fun _ => nI 0))), (a6, .inl (cz, 64, .inl (fun _ => nI 0))), (a7, .inl (c7, 64, .inl (fun _ => nI 0)))] H := hP
  have hD : va_D A [(h0, .inr (0, [.ref a1, .ref a2, .ref a3, .ref a4, .ref a5, .ref a6, .ref a7, .int (nI 0), .int (nI 0), .int (nI 0), .int (nI 0), .int (nI 0)])), (a1, .inl (ci, 69, .inl (fun _ => nI 0))), (a2, .inl (c2, 69, .inl (fun _ => nI 0))), (a3, .inl (c3, 64, .inl (fun _ => nI 0))), (a4, .inl (c4, 5, .inl (fun _ => nI 0))), (a5, .inl (c5, 64, .inl (fun _ => nI 0))), (a6, .inl (cz, 64, .inl (fun _ => nI 0))), (a7, .inl (c7, 64, .inl (fun _ => nI 0)))] := hD
  have e2 : ci = c2 := q_same hK 0 1 rfl rfl
  subst e2
  have e3 : ci = c3 := q_same hK 0 2 rfl rfl
  subst e3
  have e4 : ci = c4 := q_same hK 0 3 rfl rfl
  subst e4
  have e5 : ci = c5 := q_same hK 0 4 rfl rfl
  subst e5
  have e7 : ci = c7 := q_same hK 0 6 rfl rfl
  subst e7
  have hK : va_K (dC, dI) vwCl (q_ty ci cz) s := hK.sub [0, 5] rfl
  refine lv_iload_n hx hb dX1_init_59 rfl (lv_at hl 1 rfl) ?_
  refine lv_bipush (v := (nI 24)) hx hb dX1_init_60 (by decide) ?_
  refine lv_irem hx hb dX1_init_62 (nI_ne0 (by decide) (by decide)) ?_
  refine q_top (y := q_r24 v) rfl ?_
  refine lv_istore_n (lv' := [(2, .int (q_r24 v)), (0, .ref h0), (1, .int v)]) hx hb dX1_init_63 rfl hl (by decide) rfl (fun ls hl => ?_)
  refine lv_aload_n hx hb dX1_init_64 rfl (lv_at hl 1 rfl) ?_
  refine lv_iconst (v := (nI 1)) hx hb dX1_init_65 (by decide) ?_
  refine lv_iload_n hx hb dX1_init_66 rfl (lv_at hl 0 rfl) ?_
  refine lv_if_ge (tgt := 77) hx hb dX1_init_67 (by decide) (fun hc => ?_) (fun hc => ?_)
  · refine lv_iload_n hx hb dX1_init_77 rfl (lv_at hl 0 rfl) ?_
    refine lv_iadd hx hb dX1_init_78 ?_
    refine q_top (y := (q_cap v)) (by unfold q_cap; rw [if_pos hc]) ?_
    refine va_putF (D := (dC, dI)) (ci := 0) (v := .int (q_cap v)) (ty := .int) (C := RX1) (T := TX1) (N := 12) hx hb hts in_X1 tyX1 tyX1_ok nmX1 hown hK hP hD hS 0 rfl rfl 7 (by decide) (hts _ q37) (fun _ h9 => h9) rfl hin rfl (by decide +kernel) rfl rfl (Nat.le_of_ble_eq_true rfl) dX1_init_79 (fun H locs hP hD hS => ?_)
    have hP : va_P (dC, dI) vwCl [(h0, .inr (0, [.ref a1, .ref a2, .ref a3, .ref a4, .ref a5, .ref a6, .ref a7, .int (q_cap v), .int (nI 0), .int (nI 0), .int (nI 0), .int (nI 0)])), (a1, .inl (ci, 69, .inl (fun _ => nI 0))), (a2, .inl (ci, 69, .inl (fun _ => nI 0))), (a3, .inl (ci, 64, .inl (fun _ => nI 0))), (a4, .inl (ci, 5, .inl (fun _ => nI 0))), (a5, .inl (ci, 64, .inl (fun _ => nI 0))), (a6, .inl (cz, 64, .inl (fun _ => nI 0))), (a7, .inl (ci, 64, .inl (fun _ => nI 0)))] H := hP
    have hD : va_D A [(h0, .inr (0, [.ref a1, .ref a2, .ref a3, .ref a4, .ref a5, .ref a6, .ref a7, .int (q_cap v), .int (nI 0), .int (nI 0), .int (nI 0), .int (nI 0)])), (a1, .inl (ci, 69, .inl (fun _ => nI 0))), (a2, .inl (ci, 69, .inl (fun _ => nI 0))), (a3, .inl (ci, 64, .inl (fun _ => nI 0))), (a4, .inl (ci, 5, .inl (fun _ => nI 0))), (a5, .inl (ci, 64, .inl (fun _ => nI 0))), (a6, .inl (cz, 64, .inl (fun _ => nI 0))), (a7, .inl (ci, 64, .inl (fun _ => nI 0)))] := hD
    obtain ⟨ad, f0, f1, f2, f3, f4, f5, f6, f7⟩ : ∃ ad : Nat → Nat, ad 0 = h0 ∧ ad 1 = a1 ∧ ad 2 = a2 ∧ ad 3 = a3 ∧ ad 4 = a4 ∧ ad 5 = a5 ∧ ad 6 = a6 ∧ ad 7 = a7 := ⟨fun k => [h0, a1, a2, a3, a4, a5, a6, a7].getD k 0, rfl, rfl, rfl, rfl, rfl, rfl, rfl, rfl⟩
    subst f0
    subst f1
    subst f2
    subst f3
    subst f4
    subst f5
    subst f6
    subst f7
    have hP : va_P (dC, dI) vwCl (xw ad ci cz (fun _ => nI 0) (fun _ => nI 0) (fun _ => nI 0) (fun _ => nI 0) (fun _ => nI 0) (fun _ => nI 0) (fun _ => nI 0) (q_cap v) (nI 0) (nI 0) (nI 0) (nI 0)) H := hP
    have hD : va_D A (xw ad ci cz (fun _ => nI 0) (fun _ => nI 0) (fun _ => nI 0) (fun _ => nI 0) (fun _ => nI 0) (fun _ => nI 0) (fun _ => nI 0) (q_cap v) (nI 0) (nI 0) (nI 0) (nI 0)) := hD
    refine lv_aload_n hx hb dX1_init_82 rfl (lv_at hl 1 rfl) ?_
    have hFc := va_free (wc := (xw ad ci cz (fun _ => nI 0) (fun _ => nI 0) (fun _ => nI 0) (fun _ => nI 0) (fun _ => nI 0) (fun _ => nI 0) (fun _ => nI 0) (q_cap v) (nI 0) (nI 0) (nI 0) (nI 0))) hD hS hA [0, 1, 2, 3, 4, 5, 6, 7] rfl
    refine va_callv (va_runV (As := []) (rest := []) ⟨hx, hb, hml, hown, hts⟩ (metX1_init_2 l dC dI ci cz ad H.size (fun _ => nI 0) (fun _ => nI 0) (fun _ => nI 0) (fun _ => nI 0) (fun _ => nI 0) (fun _ => nI 0) (fun _ => nI 0) (q_cap v) (nI 0) (nI 0) (nI 0) (nI 0)) (cwV 0 hts (lw_V q26 q27 q28 q16 q29) rfl rfl rfl (by decide +kernel) ⟨Nat.le_of_ble_eq_true rfl, Nat.le_of_ble_eq_true rfl⟩) ⟨q_blind, va_recv hK hP (ci := 0) (q0 := 0) rfl rfl, fun U hU hW => q_ent hP hK hD hU hW⟩ rfl rfl hl.1 rfl (lv_room (Nat.le_of_ble_eq_true rfl)) dX1_init_83 ⟨Nat.le_of_ble_eq_true rfl, Nat.le_of_ble_eq_true rfl⟩) hS (fun q _ h => hFc q h) hFc (fun  u t H1 locs ht hvm hw hB hzq hkq hS => ?_)
    obtain ⟨nx1, pv1, lo1, le1⟩ := u
    obtain ⟨hP1, hK1, hD1⟩ := hB
    rw [ht] at hP1
    have hP : va_P (dC, dI) vwCl (xw ad ci cz nx1 pv1 lo1 le1 (q_z 64 (fun _ => nI 0)) (q_z 64 (fun _ => nI 0)) (q_z 64 (fun _ => nI 0)) (q_cap v) (nI 0) (nI 0) (nI 0) (nI 0)) H1 := hP1
    have hD : va_D A (xw ad ci cz nx1 pv1 lo1 le1 (q_z 64 (fun _ => nI 0)) (q_z 64 (fun _ => nI 0)) (q_z 64 (fun _ => nI 0)) (q_cap v) (nI 0) (nI 0) (nI 0) (nI 0)) := hD1.weaken (fun k q _ h => hFc q.1 h)
    have hw : x_rep q_L0 nx1 pv1 lo1 le1 := hw
    generalize H1 = H at hP hS ⊢
    rw [q_z_z] at hP hD
    exact W.vret hx hb hr (fun t ht hW => ⟨⟨(ad, ci, cz, nx1, pv1, lo1, le1), rfl, ⟨rfl, hw⟩, by rw [ht]; exact hP, va_K.moved hW.alike hK, hD⟩, hS.F ht⟩) hS.2.2 dX1_init_86
  · refine lv_iload_n hx hb dX1_init_70 rfl (lv_at hl 0 rfl) ?_
    refine lv_bipush (v := (nI 24)) hx hb dX1_init_71 (by decide) ?_
    refine lv_iadd hx hb dX1_init_73 ?_
    refine lv_goto (tgt := 78) hx hb dX1_init_74 (by decide) ?_
    refine lv_iadd hx hb dX1_init_78 ?_
    refine q_top (y := (q_cap v)) (by unfold q_cap; rw [if_neg hc]) ?_
    refine va_putF (D := (dC, dI)) (ci := 0) (v := .int (q_cap v)) (ty := .int) (C := RX1) (T := TX1) (N := 12) hx hb hts in_X1 tyX1 tyX1_ok nmX1 hown hK hP hD hS 0 rfl rfl 7 (by decide) (hts _ q37) (fun _ h9 => h9) rfl hin rfl (by decide +kernel) rfl rfl (Nat.le_of_ble_eq_true rfl) dX1_init_79 (fun H locs hP hD hS => ?_)
    have hP : va_P (dC, dI) vwCl [(h0, .inr (0, [.ref a1, .ref a2, .ref a3, .ref a4, .ref a5, .ref a6, .ref a7, .int (q_cap v), .int (nI 0), .int (nI 0), .int (nI 0), .int (nI 0)])), (a1, .inl (ci, 69, .inl (fun _ => nI 0))), (a2, .inl (ci, 69, .inl (fun _ => nI 0))), (a3, .inl (ci, 64, .inl (fun _ => nI 0))), (a4, .inl (ci, 5, .inl (fun _ => nI 0))), (a5, .inl (ci, 64, .inl (fun _ => nI 0))), (a6, .inl (cz, 64, .inl (fun _ => nI 0))), (a7, .inl (ci, 64, .inl (fun _ => nI 0)))] H := hP
    have hD : va_D A [(h0, .inr (0, [.ref a1, .ref a2, .ref a3, .ref a4, .ref a5, .ref a6, .ref a7, .int (q_cap v), .int (nI 0), .int (nI 0), .int (nI 0), .int (nI 0)])), (a1, .inl (ci, 69, .inl (fun _ => nI 0))), (a2, .inl (ci, 69, .inl (fun _ => nI 0))), (a3, .inl (ci, 64, .inl (fun _ => nI 0))), (a4, .inl (ci, 5, .inl (fun _ => nI 0))), (a5, .inl (ci, 64, .inl (fun _ => nI 0))), (a6, .inl (cz, 64, .inl (fun _ => nI 0))), (a7, .inl (ci, 64, .inl (fun _ => nI 0)))] := hD
    obtain ⟨ad, f0, f1, f2, f3, f4, f5, f6, f7⟩ : ∃ ad : Nat → Nat, ad 0 = h0 ∧ ad 1 = a1 ∧ ad 2 = a2 ∧ ad 3 = a3 ∧ ad 4 = a4 ∧ ad 5 = a5 ∧ ad 6 = a6 ∧ ad 7 = a7 := ⟨fun k => [h0, a1, a2, a3, a4, a5, a6, a7].getD k 0, rfl, rfl, rfl, rfl, rfl, rfl, rfl, rfl⟩
    subst f0
    subst f1
    subst f2
    subst f3
    subst f4
    subst f5
    subst f6
    subst f7
    have hP : va_P (dC, dI) vwCl (xw ad ci cz (fun _ => nI 0) (fun _ => nI 0) (fun _ => nI 0) (fun _ => nI 0) (fun _ => nI 0) (fun _ => nI 0) (fun _ => nI 0) (q_cap v) (nI 0) (nI 0) (nI 0) (nI 0)) H := hP
    have hD : va_D A (xw ad ci cz (fun _ => nI 0) (fun _ => nI 0) (fun _ => nI 0) (fun _ => nI 0) (fun _ => nI 0) (fun _ => nI 0) (fun _ => nI 0) (q_cap v) (nI 0) (nI 0) (nI 0) (nI 0)) := hD
    refine lv_aload_n hx hb dX1_init_82 rfl (lv_at hl 1 rfl) ?_
    have hFc := va_free (wc := (xw ad ci cz (fun _ => nI 0) (fun _ => nI 0) (fun _ => nI 0) (fun _ => nI 0) (fun _ => nI 0) (fun _ => nI 0) (fun _ => nI 0) (q_cap v) (nI 0) (nI 0) (nI 0) (nI 0))) hD hS hA [0, 1, 2, 3, 4, 5, 6, 7] rfl
    refine va_callv (va_runV (As := []) (rest := []) ⟨hx, hb, hml, hown, hts⟩ (metX1_init_2 l dC dI ci cz ad H.size (fun _ => nI 0) (fun _ => nI 0) (fun _ => nI 0) (fun _ => nI 0) (fun _ => nI 0) (fun _ => nI 0) (fun _ => nI 0) (q_cap v) (nI 0) (nI 0) (nI 0) (nI 0)) (cwV 0 hts (lw_V q26 q27 q28 q16 q29) rfl rfl rfl (by decide +kernel) ⟨Nat.le_of_ble_eq_true rfl, Nat.le_of_ble_eq_true rfl⟩) ⟨q_blind, va_recv hK hP (ci := 0) (q0 := 0) rfl rfl, fun U hU hW => q_ent hP hK hD hU hW⟩ rfl rfl hl.1 rfl (lv_room (Nat.le_of_ble_eq_true rfl)) dX1_init_83 ⟨Nat.le_of_ble_eq_true rfl, Nat.le_of_ble_eq_true rfl⟩) hS (fun q _ h => hFc q h) hFc (fun  u t H1 locs ht hvm hw hB hzq hkq hS => ?_)
    obtain ⟨nx1, pv1, lo1, le1⟩ := u
    obtain ⟨hP1, hK1, hD1⟩ := hB
    rw [ht] at hP1
    have hP : va_P (dC, dI) vwCl (xw ad ci cz nx1 pv1 lo1 le1 (q_z 64 (fun _ => nI 0)) (q_z 64 (fun _ => nI 0)) (q_z 64 (fun _ => nI 0)) (q_cap v) (nI 0) (nI 0) (nI 0) (nI 0)) H1 := hP1
    have hD : va_D A (xw ad ci cz nx1 pv1 lo1 le1 (q_z 64 (fun _ => nI 0)) (q_z 64 (fun _ => nI 0)) (q_z 64 (fun _ => nI 0)) (q_cap v) (nI 0) (nI 0) (nI 0) (nI 0)) := hD1.weaken (fun k q _ h => hFc q.1 h)
    have hw : x_rep q_L0 nx1 pv1 lo1 le1 := hw
    generalize H1 = H at hP hS ⊢
    rw [q_z_z] at hP hD
    exact W.vret hx hb hr (fun t ht hW => ⟨⟨(ad, ci, cz, nx1, pv1, lo1, le1), rfl, ⟨rfl, hw⟩, by rw [ht]; exact hP, va_K.moved hW.alike hK, hD⟩, hS.F ht⟩) hS.2.2 dX1_init_86
abbrev wsX2_init : List Cond := ws_ yX2_init cX2_init 3 none
abbrev m_f0 : List Value := [.int (nI 0), .null, .null, .null, .null, .null, .int (nI 0), .int (nI 0), .int (nI 0), .int (nI 0)]
set_option maxHeartbeats 4000000 in
set_option maxRecDepth 100000 in
theorem metX2_init (l : Launch) (dC : Nat → ClassId) (dI : Nat → Nat → Nat) (h0 sz : Nat) (v : Int32) : Met l yX2_init wsX2_init ({ frames := 1, cells := 5, slots := 517, locals := 12 }) (va_Pc [.ref h0, .int v] (fun U => U.heap.size = sz ∧ va_P (dC, dI) vwCl [(h0, .inr (1, m_f0))] U.heap ∧ va_K (dC, dI) vwCl [] U ∧ va_D (fun _ => True) [(h0, .inr (1, m_f0))])) (va_Qv (fun u : (Nat → Nat) × ClassId × ClassId × m_U => u.1 0 = h0 ∧ m_rep q_L0 u.2.2.2.1 u.2.2.2.2) (fun u t => q_Post dC dI u.2.1 u.2.2.1 (va_A [(h0, .inr (1, m_f0))] sz) (mw u.1 u.2.1 u.2.2.1 u.2.2.2.1 u.2.2.2.2 (fun _ => nI 0) (fun _ => nI 0) (fun _ => nI 0) (q_cap v) (nI 0) (nI 0) (nI 0) (nI 0)) t) (va_A [(h0, .inr (1, m_f0))] sz)) 5 517 (va_A [(h0, .inr (1, m_f0))] sz) := by
  refine Met.ofW (cc := cX2_init) (maxL := 3) (ret := none) (by decide) rfl ?_
  intro p e s m args below meth c s₁ B hml hv
  obtain ⟨rfl, hsz, hP, hK, hD0⟩ := hv
  have hx := B.exec
  have hb := B.bytes
  have hr := B.returns
  have hts := atoms_spec (ws := wsX2_init) B.pre
  have hts : ∀ w ∈ lw_all, w.before _ s = true := fun w h => hts w (List.mem_cons_of_mem _ h)
  have hown : s.vm.findClass RX2 = some m.cls := findClass_of_methodNamed B.named
  have hlocks := B.notSynchronized
  have hin : meth.name = "<init>" := (name_of_methodNamed B.named B.method).1
  subst hsz
  have hD := hD0.self (sz := s.heap.size)
  generalize hAe : va_A [(h0, .inr (1, m_f0))] s.heap.size = A at hD ⊢
  have hA : ∀ q : Nat, s.heap.size ≤ q → A q := fun q h => by rw [← hAe]; exact Or.inr h
  have hS : va_S A s.heap s.heap [] := va_S.rf
  have hl := lv_entry ([.ref h0, .int v]) (n := 3) (Nat.le_of_ble_eq_true rfl)
  rw [lg_entry_eq]
  generalize (lg_sl ([.ref h0, .int v]) ++ List.replicate (3 - (lg_sl ([.ref h0, .int v])).length) Slot.unset).toArray = ls at hl ⊢
  have hl : lv_has ls 3 [(0, .ref h0), (1, .int v)] := hl
  refine lv_aload_n hx hb dX2_init_0 rfl (lv_at hl 0 rfl) ?_
  refine W.objInit hx hb hown (hts _ q160) (hts _ q24) (hts _ q25) rfl (by rw [hml]; exact hl.1) rfl dX2_init_1 (Nat.le_of_ble_eq_true rfl) (Nat.le_of_ble_eq_true rfl) ?_
  refine W.eq (g2 := F0 m 4 ls []) rfl ?_
  refine lv_aload_n hx hb dX2_init_4 rfl (lv_at hl 0 rfl) ?_
  refine lv_sipush (v := (nI 320)) hx hb dX2_init_5 (by decide) ?_
  refine va_newa (atype := .int) hx hb (hts _ q67) (ty := .int) rfl hK hP hD hS hA (n := nI 320) (N' := 320) (a0 := (320, .inl (fun _ => nI 0))) (fun cA => rfl) (by decide) (by decide) (by decide) (Nat.le_of_ble_eq_true rfl) (Nat.le_of_ble_eq_true rfl) dX2_init_8 (fun a1 ci H hK hP hD hS => ?_)
  refine W.widen (k := 1) (n := 320) (by omega) (by omega) ?_
  have hK : va_K (dC, dI) vwCl [(ci, .int)] s := hK
  have hP : va_P (dC, dI) vwCl [(h0, .inr (1, [.int (nI 0), .null, .null, .null, .null, .null, .int (nI 0), .int (nI 0), .int (nI 0), .int (nI 0)])), (a1, .inl (ci, 320, .inl (fun _ => nI 0)))] H := hP
  have hD : va_D A [(h0, .inr (1, [.int (nI 0), .null, .null, .null, .null, .null, .int (nI 0), .int (nI 0), .int (nI 0), .int (nI 0)])), (a1, .inl (ci, 320, .inl (fun _ => nI 0)))] := hD
  refine va_putF (D := (dC, dI)) (ci := 1) (v := .ref a1) (ty := .array .int) (C := RX2) (T := TX2) (N := 10) hx hb hts in_X2 tyX2 tyX2_ok nmX2 hown hK hP hD hS 0 rfl rfl 1 (by decide) (hts _ q162) (fun _ h9 => h9) rfl hin rfl (by decide +kernel) rfl rfl (Nat.le_of_ble_eq_true rfl) dX2_init_10 (fun H locs hP hD hS => ?_)
  have hP : va_P (dC, dI) vwCl [(h0, .inr (1, [.int (nI 0), .ref a1, .null, .null, .null, .null, .int (nI 0), .int (nI 0), .int (nI 0), .int (nI 0)])), (a1, .inl (ci, 320, .inl (fun _ => nI 0)))] H := hP
  have hD : va_D A [(h0, .inr (1, [.int (nI 0), .ref a1, .null, .null, .null, .null, .int (nI 0), .int (nI 0), .int (nI 0), .int (nI 0)])), (a1, .inl (ci, 320, .inl (fun _ => nI 0)))] := hD
  refine lv_aload_n hx hb dX2_init_13 rfl (lv_at hl 0 rfl) ?_
  refine lv_iconst (v := (nI 5)) hx hb dX2_init_14 (by decide) ?_
  refine va_newa (atype := .int) hx hb (hts _ q67) (ty := .int) rfl hK hP hD hS hA (n := nI 5) (N' := 5) (a0 := (5, .inl (fun _ => nI 0))) (fun cA => rfl) (by decide) (by decide) (by decide) (Nat.le_of_ble_eq_true rfl) (Nat.le_of_ble_eq_true rfl) dX2_init_15 (fun a2 c2 H hK hP hD hS => ?_)
  refine W.widen (k := 2) (n := 325) (by omega) (by omega) ?_
  have hK : va_K (dC, dI) vwCl [(ci, .int), (c2, .int)] s := hK
  have hP : va_P (dC, dI) vwCl [(h0, .inr (1, [.int (nI 0), .ref a1, .null, .null, .null, .null, .int (nI 0), .int (nI 0), .int (nI 0), .int (nI 0)])), (a1, .inl (ci, 320, .inl (fun _ => nI 0))), (a2, .inl (c2, 5, .inl (fun _ => nI 0)))] H := hP
  have hD : va_D A [(h0, .inr (1, [.int (nI 0), .ref a1, .null, .null, .null, .null, .int (nI 0), .int (nI 0), .int (nI 0), .int (nI 0)])), (a1, .inl (ci, 320, .inl (fun _ => nI 0))), (a2, .inl (c2, 5, .inl (fun _ => nI 0)))] := hD
  refine va_putF (D := (dC, dI)) (ci := 1) (v := .ref a2) (ty := .array .int) (C := RX2) (T := TX2) (N := 10) hx hb hts in_X2 tyX2 tyX2_ok nmX2 hown hK hP hD hS 0 rfl rfl 2 (by decide) (hts _ q163) (fun _ h9 => h9) rfl hin rfl (by decide +kernel) rfl rfl (Nat.le_of_ble_eq_true rfl) dX2_init_17 (fun H locs hP hD hS => ?_)
  have hP : va_P (dC, dI) vwCl [(h0, .inr (1, [.int (nI 0), .ref a1, .ref a2, .null, .null, .null, .int (nI 0), .int (nI 0), .int (nI 0), .int (nI 0)])), (a1, .inl (ci, 320, .inl (fun _ => nI 0))), (a2, .inl (c2, 5, .inl (fun _ => nI 0)))] H := hP
  have hD : va_D A [(h0, .inr (1, [.int (nI 0), .ref a1, .ref a2, .null, .null, .null, .int (nI 0), .int (nI 0), .int (nI 0), .int (nI 0)])), (a1, .inl (ci, 320, .inl (fun _ => nI 0))), (a2, .inl (c2, 5, .inl (fun _ => nI 0)))] := hD
  refine lv_aload_n hx hb dX2_init_20 rfl (lv_at hl 0 rfl) ?_
  refine lv_bipush (v := (nI 64)) hx hb dX2_init_21 (by decide) ?_
  refine va_newa (atype := .int) hx hb (hts _ q67) (ty := .int) rfl hK hP hD hS hA (n := nI 64) (N' := 64) (a0 := (64, .inl (fun _ => nI 0))) (fun cA => rfl) (by decide) (by decide) (by decide) (Nat.le_of_ble_eq_true rfl) (Nat.le_of_ble_eq_true rfl) dX2_init_23 (fun a3 c3 H hK hP hD hS => ?_)
  refine W.widen (k := 3) (n := 389) (by omega) (by omega) ?_
  have hK : va_K (dC, dI) vwCl [(ci, .int), (c2, .int), (c3, .int)] s := hK
  have hP : va_P (dC, dI) vwCl [(h0, .inr (1, [.int (nI 0), .ref a1, .ref a2, .null, .null, .null, .int (nI 0), .int (nI 0), .int (nI 0), .int (nI 0)])), (a1, .inl (ci, 320, .inl (fun _ => nI 0))), (a2, .inl (c2, 5, .inl (fun _ => nI 0))), (a3, .inl (c3, 64, .inl (fun _ => nI 0)))] H := hP
  have hD : va_D A [(h0, .inr (1, [.int (nI 0), .ref a1, .ref a2, .null, .null, .null, .int (nI 0), .int (nI 0), .int (nI 0), .int (nI 0)])), (a1, .inl (ci, 320, .inl (fun _ => nI 0))), (a2, .inl (c2, 5, .inl (fun _ => nI 0))), (a3, .inl (c3, 64, .inl (fun _ => nI 0)))] := hD
  refine va_putF (D := (dC, dI)) (ci := 1) (v := .ref a3) (ty := .array .int) (C := RX2) (T := TX2) (N := 10) hx hb hts in_X2 tyX2 tyX2_ok nmX2 hown hK hP hD hS 0 rfl rfl 3 (by decide) (hts _ q164) (fun _ h9 => h9) rfl hin rfl (by decide +kernel) rfl rfl (Nat.le_of_ble_eq_true rfl) dX2_init_25 (fun H locs hP hD hS => ?_)
  have hP : va_P (dC, dI) vwCl [(h0, .inr (1, [.int (nI 0), .ref a1, .ref a2, .ref a3, .null, .null, .int (nI 0), .int (nI 0), .int (nI 0), .int (nI 0)])), (a1, .inl (ci, 320, .inl (fun _ => nI 0))), (a2, .inl (c2, 5, .inl (fun _ => nI 0))), (a3, .inl (c3, 64, .inl (fun _ => nI 0)))] H := hP
  have hD : va_D A [(h0, .inr (1, [.int (nI 0), .ref a1, .ref a2, .ref a3, .null, .null, .int (nI 0), .int (nI 0), .int (nI 0), .int (nI 0)])), (a1, .inl (ci, 320, .inl (fun _ => nI 0))), (a2, .inl (c2, 5, .inl (fun _ => nI 0))), (a3, .inl (c3, 64, .inl (fun _ => nI 0)))] := hD
  refine lv_aload_n hx hb dX2_init_28 rfl (lv_at hl 0 rfl) ?_
  refine lv_bipush (v := (nI 64)) hx hb dX2_init_29 (by decide) ?_
  refine va_newa (atype := .int) hx hb (hts _ q67) (ty := .int) rfl hK hP hD hS hA (n := nI 64) (N' := 64) (a0 := (64, .inl (fun _ => nI 0))) (fun cA => rfl) (by decide) (by decide) (by decide) (Nat.le_of_ble_eq_true rfl) (Nat.le_of_ble_eq_true rfl) dX2_init_31 (fun a4 c4 H hK hP hD hS => ?_)
  refine W.widen (k := 4) (n := 453) (by omega) (by omega) ?_
  have hK : va_K (dC, dI) vwCl [(ci, .int), (c2, .int), (c3, .int), (c4, .int)] s := hK
  have hP : va_P (dC, dI) vwCl [(h0, .inr (1, [.int (nI 0), .ref a1, .ref a2, .ref a3, .null, .null, .int (nI 0), .int (nI 0), .int (nI 0), .int (nI 0)])), (a1, .inl (ci, 320, .inl (fun _ => nI 0))), (a2, .inl (c2, 5, .inl (fun _ => nI 0))), (a3, .inl (c3, 64, .inl (fun _ => nI 0))), (a4, .inl (c4, 64, .inl (fun _ => nI 0)))] H := hP
  have hD : va_D A [(h0, .inr (1, [.int (nI 0), .ref a1, .ref a2, .ref a3, .null, .null, .int (nI 0), .int (nI 0), .int (nI 0), .int (nI 0)])), (a1, .inl (ci, 320, .inl (fun _ => nI 0))), (a2, .inl (c2, 5, .inl (fun _ => nI 0))), (a3, .inl (c3, 64, .inl (fun _ => nI 0))), (a4, .inl (c4, 64, .inl (fun _ => nI 0)))] := hD
  refine va_putF (D := (dC, dI)) (ci := 1) (v := .ref a4) (ty := .array .int) (C := RX2) (T := TX2) (N := 10) hx hb hts in_X2 tyX2 tyX2_ok nmX2 hown hK hP hD hS 0 rfl rfl 4 (by decide) (hts _ q165) (fun _ h9 => h9) rfl hin rfl (by decide +kernel) rfl rfl (Nat.le_of_ble_eq_true rfl) dX2_init_33 (fun H locs hP hD hS => ?_)
  have hP : va_P (dC, dI) vwCl [(h0, .inr (1, [.int (nI 0), .ref a1, .ref a2, .ref a3, .ref a4, .null, .int (nI 0), .int (nI 0), .int (nI 0), .int (nI 0)])), (a1, .inl (ci, 320, .inl (fun _ => nI 0))), (a2, .inl (c2, 5, .inl (fun _ => nI 0))), (a3, .inl (c3, 64, .inl (fun _ => nI 0))), (a4, .inl (c4, 64, .inl (fun _ => nI 0)))] H := hP
  have hD : va_D A [(h0, .inr (1, [.int (nI 0), .ref a1, .ref a2, .ref a3, .ref a4, .null, .int (nI 0), .int (nI 0), .int (nI 0), .int (nI 0)])), (a1, .inl (ci, 320, .inl (fun _ => nI 0))), (a2, .inl (c2, 5, .inl (fun _ => nI 0))), (a3, .inl (c3, 64, .inl (fun _ => nI 0))), (a4, .inl (c4, 64, .inl (fun _ => nI 0)))] := hD
  refine lv_aload_n hx hb dX2_init_36 rfl (lv_at hl 0 rfl) ?_
  refine lv_bipush (v := (nI 64)) hx hb dX2_init_37 (by decide) ?_
  refine va_newa (atype := .boolean) hx hb (hts _ q68) (ty := .boolean) rfl hK hP hD hS hA (n := nI 64) (N' := 64) (a0 := (64, .inl (fun _ => nI 0))) (fun cA => rfl) (by decide) (by decide) (by decide) (Nat.le_of_ble_eq_true rfl) (Nat.le_of_ble_eq_true rfl) dX2_init_39 (fun a5 cz H hK hP hD hS => ?_)
  refine W.widen (k := 5) (n := 517) (by omega) (by omega) ?_
  have hK : va_K (dC, dI) vwCl [(ci, .int), (c2, .int), (c3, .int), (c4, .int), (cz, .boolean)] s := hK
  have hP : va_P (dC, dI) vwCl [(h0, .inr (1, [.int (nI 0), .ref a1, .ref a2, .ref a3, .ref a4, .null, .int (nI 0), .int (nI 0), .int (nI 0), .int (nI 0)])), (a1, .inl (ci, 320, .inl (fun _ => nI 0))), (a2, .inl (c2, 5, .inl (fun _ => nI 0))), (a3, .inl (c3, 64, .inl (fun _ => nI 0))), (a4, .inl (c4, 64, .inl (fun _ => nI 0))), (a5, .inl (cz, 64, .inl (fun _ => nI 0)))] H := hP
  have hD : va_D A [(h0, .inr (1, [.int (nI 0), .ref a1, .ref a2, .ref a3, .ref a4, .null, .int (nI 0), .int (nI 0), .int (nI 0), .int (nI 0)])), (a1, .inl (ci, 320, .inl (fun _ => nI 0))), (a2, .inl (c2, 5, .inl (fun _ => nI 0))), (a3, .inl (c3, 64, .inl (fun _ => nI 0))), (a4, .inl (c4, 64, .inl (fun _ => nI 0))), (a5, .inl (cz, 64, .inl (fun _ => nI 0)))] := hD
  refine va_putF (D := (dC, dI)) (ci := 1) (v := .ref a5) (ty := .array .boolean) (C := RX2) (T := TX2) (N := 10) hx hb hts in_X2 tyX2 tyX2_ok nmX2 hown hK hP hD hS 0 rfl rfl 5 (by decide) (hts _ q166) (fun _ h9 => h9) rfl hin rfl (by decide +kernel) rfl rfl (Nat.le_of_ble_eq_true rfl) dX2_init_41 (fun H locs hP hD hS => ?_)
  have hP : va_P (dC, dI) vwCl [(h0, .inr (1, [.int (nI 0), .ref a1, .ref a2, .ref a3, .ref a4, .ref a5, .int (nI 0), .int (nI 0), .int (nI 0), .int (nI 0)])), (a1, .inl (ci, 320, .inl (fun _ => nI 0))), (a2, .inl (c2, 5, .inl (fun _ => nI 0))), (a3, .inl (c3, 64, .inl (fun _ => nI 0))), (a4, .inl (c4, 64, .inl (fun _ => nI 0))), (a5, .inl (cz, 64, .inl (fun _ => nI 0)))] H := hP
  have hD : va_D A [(h0, .inr (1, [.int (nI 0), .ref a1, .ref a2, .ref a3, .ref a4, .ref a5, .int (nI 0), .int (nI 0), .int (nI 0), .int (nI 0)])), (a1, .inl (ci, 320, .inl (fun _ => nI 0))), (a2, .inl (c2, 5, .inl (fun _ => nI 0))), (a3, .inl (c3, 64, .inl (fun _ => nI 0))), (a4, .inl (c4, 64, .inl (fun _ => nI 0))), (a5, .inl (cz, 64, .inl (fun _ => nI 0)))] := hD
  have e2 : ci = c2 := q_same hK 0 1 rfl rfl
  subst e2
  have e3 : ci = c3 := q_same hK 0 2 rfl rfl
  subst e3
  have e4 : ci = c4 := q_same hK 0 3 rfl rfl
  subst e4
  have hK : va_K (dC, dI) vwCl (q_ty ci cz) s := hK.sub [0, 4] rfl
  refine lv_iload_n hx hb dX2_init_44 rfl (lv_at hl 1 rfl) ?_
  refine lv_bipush (v := (nI 24)) hx hb dX2_init_45 (by decide) ?_
  refine lv_irem hx hb dX2_init_47 (nI_ne0 (by decide) (by decide)) ?_
  refine q_top (y := q_r24 v) rfl ?_
  refine lv_istore_n (lv' := [(2, .int (q_r24 v)), (0, .ref h0), (1, .int v)]) hx hb dX2_init_48 rfl hl (by decide) rfl (fun ls hl => ?_)
  refine lv_aload_n hx hb dX2_init_49 rfl (lv_at hl 1 rfl) ?_
  refine lv_iconst (v := (nI 1)) hx hb dX2_init_50 (by decide) ?_
  refine lv_iload_n hx hb dX2_init_51 rfl (lv_at hl 0 rfl) ?_
  refine lv_if_ge (tgt := 62) hx hb dX2_init_52 (by decide) (fun hc => ?_) (fun hc => ?_)
  · refine lv_iload_n hx hb dX2_init_62 rfl (lv_at hl 0 rfl) ?_
    refine lv_iadd hx hb dX2_init_63 ?_
    refine q_top (y := (q_cap v)) (by unfold q_cap; rw [if_pos hc]) ?_
    refine va_putF (D := (dC, dI)) (ci := 1) (v := .int (q_cap v)) (ty := .int) (C := RX2) (T := TX2) (N := 10) hx hb hts in_X2 tyX2 tyX2_ok nmX2 hown hK hP hD hS 0 rfl rfl 0 (by decide) (hts _ q161) (fun _ h9 => h9) rfl hin rfl (by decide +kernel) rfl rfl (Nat.le_of_ble_eq_true rfl) dX2_init_64 (fun H locs hP hD hS => ?_)
    have hP : va_P (dC, dI) vwCl [(h0, .inr (1, [.int (q_cap v), .ref a1, .ref a2, .ref a3, .ref a4, .ref a5, .int (nI 0), .int (nI 0), .int (nI 0), .int (nI 0)])), (a1, .inl (ci, 320, .inl (fun _ => nI 0))), (a2, .inl (ci, 5, .inl (fun _ => nI 0))), (a3, .inl (ci, 64, .inl (fun _ => nI 0))), (a4, .inl (ci, 64, .inl (fun _ => nI 0))), (a5, .inl (cz, 64, .inl (fun _ => nI 0)))] H := hP
    have hD : va_D A [(h0, .inr (1, [.int (q_cap v), .ref a1, .ref a2, .ref a3, .ref a4, .ref a5, .int (nI 0), .int (nI 0), .int (nI 0), .int (nI 0)])), (a1, .inl (ci, 320, .inl (fun _ => nI 0))), (a2, .inl (ci, 5, .inl (fun _ => nI 0))), (a3, .inl (ci, 64, .inl (fun _ => nI 0))), (a4, .inl (ci, 64, .inl (fun _ => nI 0))), (a5, .inl (cz, 64, .inl (fun _ => nI 0)))] := hD
    obtain ⟨ad, f0, f1, f2, f3, f4, f5⟩ : ∃ ad : Nat → Nat, ad 0 = h0 ∧ ad 1 = a1 ∧ ad 2 = a2 ∧ ad 3 = a3 ∧ ad 4 = a4 ∧ ad 5 = a5 := ⟨fun k => [h0, a1, a2, a3, a4, a5].getD k 0, rfl, rfl, rfl, rfl, rfl, rfl⟩
    subst f0
    subst f1
    subst f2
    subst f3
    subst f4
    subst f5
    have hP : va_P (dC, dI) vwCl (mw ad ci cz (fun _ => nI 0) (fun _ => nI 0) (fun _ => nI 0) (fun _ => nI 0) (fun _ => nI 0) (q_cap v) (nI 0) (nI 0) (nI 0) (nI 0)) H := hP
    have hD : va_D A (mw ad ci cz (fun _ => nI 0) (fun _ => nI 0) (fun _ => nI 0) (fun _ => nI 0) (fun _ => nI 0) (q_cap v) (nI 0) (nI 0) (nI 0) (nI 0)) := hD
    exact W.vret hx hb hr (fun t ht hW => ⟨⟨(ad, ci, cz, (fun _ => nI 0), (fun _ => nI 0)), rfl, ⟨rfl, m_rep_00 _⟩, by rw [ht]; exact hP, va_K.moved hW.alike hK, hD⟩, hS.F ht⟩) hS.2.2 dX2_init_67
  · refine lv_iload_n hx hb dX2_init_55 rfl (lv_at hl 0 rfl) ?_
    refine lv_bipush (v := (nI 24)) hx hb dX2_init_56 (by decide) ?_
    refine lv_iadd hx hb dX2_init_58 ?_
    refine lv_goto (tgt := 63) hx hb dX2_init_59 (by decide) ?_
    refine lv_iadd hx hb dX2_init_63 ?_
    refine q_top (y := (q_cap v)) (by unfold q_cap; rw [if_neg hc]) ?_
    refine va_putF (D := (dC, dI)) (ci := 1) (v := .int (q_cap v)) (ty := .int) (C := RX2) (T := TX2) (N := 10) hx hb hts in_X2 tyX2 tyX2_ok nmX2 hown hK hP hD hS 0 rfl rfl 0 (by decide) (hts _ q161) (fun _ h9 => h9) rfl hin rfl (by decide +kernel) rfl rfl (Nat.le_of_ble_eq_true rfl) dX2_init_64 (fun H locs hP hD hS => ?_)
    have hP : va_P (dC, dI) vwCl [(h0, .inr (1, [.int (q_cap v), .ref a1, .ref a2, .ref a3, .ref a4, .ref a5, .int (nI 0), .int (nI 0), .int (nI 0), .int (nI 0)])), (a1, .inl (ci, 320, .inl (fun _ => nI 0))), (a2, .inl (ci, 5, .inl (fun _ => nI 0))), (a3, .inl (ci, 64, .inl (fun _ => nI 0))), (a4, .inl (ci, 64, .inl (fun _ => nI 0))), (a5, .inl (cz, 64, .inl (fun _ => nI 0)))] H := hP
    have hD : va_D A [(h0, .inr (1, [.int (q_cap v), .ref a1, .ref a2, .ref a3, .ref a4, .ref a5, .int (nI 0), .int (nI 0), .int (nI 0), .int (nI 0)])), (a1, .inl (ci, 320, .inl (fun _ => nI 0))), (a2, .inl (ci, 5, .inl (fun _ => nI 0))), (a3, .inl (ci, 64, .inl (fun _ => nI 0))), (a4, .inl (ci, 64, .inl (fun _ => nI 0))), (a5, .inl (cz, 64, .inl (fun _ => nI 0)))] := hD
    obtain ⟨ad, f0, f1, f2, f3, f4, f5⟩ : ∃ ad : Nat → Nat, ad 0 = h0 ∧ ad 1 = a1 ∧ ad 2 = a2 ∧ ad 3 = a3 ∧ ad 4 = a4 ∧ ad 5 = a5 := ⟨fun k => [h0, a1, a2, a3, a4, a5].getD k 0, rfl, rfl, rfl, rfl, rfl, rfl⟩
    subst f0
    subst f1
    subst f2
    subst f3
    subst f4
    subst f5
    have hP : va_P (dC, dI) vwCl (mw ad ci cz (fun _ => nI 0) (fun _ => nI 0) (fun _ => nI 0) (fun _ => nI 0) (fun _ => nI 0) (q_cap v) (nI 0) (nI 0) (nI 0) (nI 0)) H := hP
    have hD : va_D A (mw ad ci cz (fun _ => nI 0) (fun _ => nI 0) (fun _ => nI 0) (fun _ => nI 0) (fun _ => nI 0) (q_cap v) (nI 0) (nI 0) (nI 0) (nI 0)) := hD
    exact W.vret hx hb hr (fun t ht hW => ⟨⟨(ad, ci, cz, (fun _ => nI 0), (fun _ => nI 0)), rfl, ⟨rfl, m_rep_00 _⟩, by rw [ht]; exact hP, va_K.moved hW.alike hK, hD⟩, hS.F ht⟩) hS.2.2 dX2_init_67
abbrev wsX0_cell : List Cond := ws_ yX0_cell cX0_cell 2 (some .int)
/-- the first of the script, or 0 -/
def q_first (N : Nat) (xs : Nat → Int32) : Int32 := if 0 < N then xs 0 else nI 0
set_option maxHeartbeats 4000000 in
set_option maxRecDepth 100000 in
theorem metX0_cell (l : Launch) (b N : Nat) (xs : Nat → Int32) (hN : N < 1000) : Met l yX0_cell wsX0_cell ({ frames := 0, cells := 0, slots := 0, locals := 0 }) (va_Pc [.ref b, .int (nI 0)] (fun U => va_X b N xs U U.heap ∧ b < U.heap.size)) (va_Qi (fun (r : Int32) (_ : Unit) => r = q_first N xs) (fun (_ : Unit) _ => True) (fun _ => False)) 0 0 (fun _ => False) := by
  refine Met.ofW (cc := cX0_cell) (maxL := 2) (ret := (some .int)) (by decide) rfl ?_
  intro p e s m args below meth c s₁ B hml hv
  obtain ⟨rfl, hX, hbl⟩ := hv
  have hx := B.exec
  have hb := B.bytes
  have hr := B.returns
  have hlocks := B.notSynchronized
  have hS : va_S (fun _ => False) s.heap s.heap [] := va_S.rf
  have hl := lv_entry ([.ref b, .int (nI 0)]) (n := 2) (Nat.le_of_ble_eq_true rfl)
  rw [lg_entry_eq]
  generalize (lg_sl ([.ref b, .int (nI 0)]) ++ List.replicate (2 - (lg_sl ([.ref b, .int (nI 0)])).length) Slot.unset).toArray = ls at hl ⊢
  have hl : lv_has ls 2 [(0, .ref b), (1, .int (nI 0))] := hl
  refine lv_iload_n hx hb dX0_cell_0 rfl (lv_at hl 1 rfl) ?_
  refine lv_aload_n hx hb dX0_cell_1 rfl (lv_at hl 0 rfl) ?_
  have hbA : ¬ (fun _ : Nat => False) b := fun h => h
  refine va_slen hx hb hX hbl hbA hS dX0_cell_2 ?_
  refine q_top (y := nI N) rfl ?_
  refine q_icmp_ge (tgt := 12) hx hb (by omega) (by omega) dX0_cell_3 (by decide) (fun hc => ?_) (fun hc => ?_)
  · refine lv_iconst (v := (nI 0)) hx hb dX0_cell_12 (by decide) ?_
    exact W.iret (v := (nI 0)) hx hb hr (fun t ht hW => ⟨⟨(nI 0), (), rfl, (if_neg (by omega)).symm, trivial⟩, hS.F ht⟩) hS.2.2 dX0_cell_13
  · refine lv_aload_n hx hb dX0_cell_6 rfl (lv_at hl 0 rfl) ?_
    refine lv_iload_n hx hb dX0_cell_7 rfl (lv_at hl 1 rfl) ?_
    refine va_sld hx hb hX hbl hbA hS (vp_in_nI (n := 0) (N := N) hc (by omega)) dX0_cell_8 ?_
    refine q_top (y := xs 0) (by rw [nI_clamp (by omega)]) ?_
    refine lv_goto (tgt := 13) hx hb dX0_cell_9 (by decide) ?_
    exact W.iret (v := (xs 0)) hx hb hr (fun t ht hW => ⟨⟨(xs 0), (), rfl, (if_pos hc).symm, trivial⟩, hS.F ht⟩) hS.2.2 dX0_cell_13
end
section
/-! THE CLAIM OUT OF ONE WALK OF THE LAW'S BODY. Your part is whole_start (and what it stands on); all else here is the same for every law, but numbers. -/
def R_law : String := "ArcCacheLaw"
def lw_P (b : Addr) (xs : List Int32) (args : Array Value) (s : State) : Prop := args = #[.ref b] ∧ s.IntsAt b xs ∧ xs.length ≤ 193 ∧ (Jvm.Cond.and given_1 narrow_1).before args s = true
def lw_Q (_ : Array Value) (s : State) (o : Outcome) (t : State) : Prop := o = .returned (some (.int 1)) ∧ Framed s o t [] 600000 7290000
def lw_Z (below : List Frame) (a : Array Value) (s : State) : State → Prop := fun t => ∃ o, t.status = .running ∧ Ended t below o ∧ lw_Q a s o t
/-- the law's own end, with 1 on the stack, nothing written that was there before, its room as the claim has it -/
theorem lw_ret {p : Program} {l : Launch} {e : Env} {s : State} {m : MethodId} {below : List Frame} {meth : Method} {c : Code} {b : Nat} (hx : p.tables.exec = Jvm.exec) (hb : c.code = code) (hr : meth.sig.returnType = ret) (hlocks : meth.locks = false) {pc : Nat} {H : Heap} {ls : Array Slot} (hdg : decode code pc = .ok (.ireturn, 1)) : W p l e room_1 s m #[Value.ref b] below meth c H [] 600000 7290000 (lw_Z below #[Value.ref b] s) (F0 m pc ls [.int 1]) := by
  intro T hT X
  obtain ⟨fs, hret, hrun, hended, hW, hframe⟩ := X.leave (v := some (.int 1)) (hlocks := hlocks) (fun h => by rw [hr] at h; cases h)
  have hmeth' : T.vm.method? m = some meth := X.method'
  refine ⟨T.setFrames fs, ?_, .returned (some (.int 1)), hrun, hended, rfl, ⟨_, rfl⟩, hW, hframe⟩
  jvm_step X.here [X.here.top, hx, hb, hdg, hmeth', hr, ret, narrow_b1]
  (try refine ⟨rfl, ?_⟩); (try refine ⟨rfl, ?_⟩)
  first | (intro acts; rw [hret _ acts rfl rfl rfl]) | rw [hret _ _ rfl rfl rfl]
  exact Steps.refl _
/-- what holds at the law's entry: the machine, the code, the tables' words (any of lw_tbl by 'hts w (by decide +kernel)'), the script of L ints xs at the cell b, what the Statement gives of the start (any of its parts by flat_of_before) -/
def lw_At (p : Program) (s : State) (m : MethodId) (meth : Method) (c : Code) (b L : Nat) (xs : Nat → Int32) : Prop :=
  p.tables.exec = Jvm.exec ∧ c.code = code ∧ meth.sig.returnType = ret ∧ c.maxLocals = 4 ∧ s.vm.findClass R_law = some m.cls ∧ (∀ w ∈ lw_tbl, w.before #[Value.ref b] s = true) ∧ va_X b L xs s s.heap ∧ b < s.heap.size ∧ meth.locks = false ∧ (Jvm.Cond.and given_1 narrow_1).before #[Value.ref b] s = true
/-- both worlds, tied to one state -/
def q_In (dC : Nat → ClassId) (dI : Nat → Nat → Nat) (ci cz : ClassId) (ad am : Nat → Nat) (cp : Nat) (s : State) (H : Heap) (locs : List Loc) : Prop := ∃ (L : Nat → List Nat) (tg : Nat) (di wo ba : Nat → Int32) (hi mi go : Int32) (nx pv lo le li ma : Nat → Int32), q_inv cp L di tg ∧ x_rep L nx pv lo le ∧ m_rep L li ma ∧ va_P (dC, dI) vwCl ((xw ad ci cz nx pv lo le wo di ba (nI cp) (nI tg) hi mi go) ++ (mw am ci cz li ma wo di ba (nI cp) (nI tg) hi mi go)) H ∧ va_D (fun q : Nat => s.heap.size ≤ q) ((xw ad ci cz nx pv lo le wo di ba (nI cp) (nI tg) hi mi go) ++ (mw am ci cz li ma wo di ba (nI cp) (nI tg) hi mi go)) ∧ va_S (fun q : Nat => s.heap.size ≤ q) s.heap H locs
end
section
set_option maxHeartbeats 4000000 in
set_option maxRecDepth 100000 in
theorem q_case0 {p : Program} {l : Launch} {e : Env} {s : State} {m : MethodId} {below : List Frame} {meth : Method} {c : Code} {Q : State → Prop} {b N : Nat} {xs : Nat → Int32} {dC : Nat → ClassId} {dI : Nat → Nat → Nat} {ci cz : ClassId} {ad am : Nat → Nat} {cp i : Nat} (hN : N ≤ 193) (C0 : lw_At p s m meth c b N xs) (hi3 : i + 3 ≤ N) (hK : va_K (dC, dI) vwCl (q_ty ci cz) s) (KN : ∀ (H : Heap) (locs : List Loc) (ls : Array Slot), q_In dC dI ci cz ad am cp s H locs → lv_has ls 4 [(0, .ref b), (1, .ref (ad 0)), (2, .ref (am 0)), (3, .int (nI i))] → W p l e room_1 s m #[Value.ref b] below meth c H locs 14 938 Q (F0 m 365 ls [])) : ∀ (H : Heap) (locs : List Loc) (ls : Array Slot), q_In dC dI ci cz ad am cp s H locs → lv_has ls 4 [(0, .ref b), (1, .ref (ad 0)), (2, .ref (am 0)), (3, .int (nI i))] → W p l e room_1 s m #[Value.ref b] below meth c H locs 14 938 Q (F0 m 108 ls []) := by
  intro H locs ls hI9 hl
  obtain ⟨hx, hb, hr, hml, hown, hts0, hX, hbl, hlocks, hgv⟩ := C0
  have hts : ∀ w ∈ lw_all, w.before #[Value.ref b] s = true := fun w h => hts0 w (lw_all_tbl h)
  have hA : ∀ q : Nat, s.heap.size ≤ q → (fun q : Nat => s.heap.size ≤ q) q := fun _ h => h
  have hbA : ¬ (fun q : Nat => s.heap.size ≤ q) b := Nat.not_le.mpr hbl
  obtain ⟨L, tg, di, wo, ba, hi, mi, go, nx, pv, lo, le, li, ma, hI, hRx, hRm, hP, hD, hS⟩ := hI9
  refine lv_aload_n hx hb dL_law_108 rfl (lv_at hl 1 rfl) ?_
  have hPc := hP.sub (ws' := (xw ad ci cz nx pv lo le wo di ba (nI cp) (nI tg) hi mi go)) [0, 1, 2, 3, 4, 5, 6, 7] rfl
  have hDc := hD.sub (ws' := (xw ad ci cz nx pv lo le wo di ba (nI cp) (nI tg) hi mi go)) [0, 1, 2, 3, 4, 5, 6, 7] (by decide) rfl
  have hFc := va_free (wc := (xw ad ci cz nx pv lo le wo di ba (nI cp) (nI tg) hi mi go)) hD hS hA [0, 1, 2, 3, 4, 5, 6, 7] rfl
  refine va_callv (va_runV (As := []) (rest := []) ⟨hx, hb, hml, hown, hts⟩ (metX1_init_2 l dC dI ci cz ad H.size nx pv lo le wo di ba (nI cp) (nI tg) hi mi go) (cwV 0 hts (lw_V q69 q27 q28 q16 q29) rfl rfl rfl (by decide +kernel) ⟨Nat.le_of_ble_eq_true rfl, Nat.le_of_ble_eq_true rfl⟩) ⟨q_blind, va_recv hK hPc (ci := 0) (q0 := 0) rfl rfl, fun U hU hW => q_ent hPc hK hDc hU hW⟩ rfl rfl hl.1 rfl (lv_room (Nat.le_of_ble_eq_true rfl)) dL_law_109 ⟨Nat.le_of_ble_eq_true rfl, Nat.le_of_ble_eq_true rfl⟩) hS (fun q _ h => hFc q h) hFc (fun  u t H1 locs ht hvm hwx hB hzq hkq hS => ?_)
  obtain ⟨nx1, pv1, lo1, le1⟩ := u
  obtain ⟨hP1, hK1, hD1⟩ := hB
  rw [ht] at hP1
  obtain ⟨hP, hD⟩ := va_join (wr := (mw am ci cz li ma wo di ba (nI cp) (nI tg) hi mi go)) (w1 := (xw ad ci cz nx1 pv1 lo1 le1 (q_z 64 wo) (q_z 64 di) (q_z 64 ba) (nI cp) (nI 0) (nI 0) (nI 0) (nI 0))) hP hD [0, 1, 2, 3, 4, 5, 6, 7] [8, 9, 10, 11, 12, 13] rfl rfl (by decide) (by decide) hkq hFc hP1 hD1
  have hwx : x_rep q_L0 nx1 pv1 lo1 le1 := hwx
  generalize H1 = H at hP hS ⊢
  have hP : va_P (dC, dI) vwCl ((mw am ci cz li ma wo di ba (nI cp) (nI tg) hi mi go) ++ (xw ad ci cz nx1 pv1 lo1 le1 (q_z 64 wo) (q_z 64 di) (q_z 64 ba) (nI cp) (nI 0) (nI 0) (nI 0) (nI 0))) H := hP
  refine lv_aload_n hx hb dL_law_112 rfl (lv_at hl 2 rfl) ?_
  have hPc := hP.sub (ws' := (mw am ci cz li ma wo di ba (nI cp) (nI tg) hi mi go)) [0, 1, 2, 3, 4, 5] rfl
  have hDc := hD.sub (ws' := (mw am ci cz li ma wo di ba (nI cp) (nI tg) hi mi go)) [0, 1, 2, 3, 4, 5] (by decide) rfl
  have hFc := va_free (wc := (mw am ci cz li ma wo di ba (nI cp) (nI tg) hi mi go)) hD hS hA [0, 1, 2, 3, 4, 5] rfl
  refine va_callv (va_runV (As := []) (rest := []) ⟨hx, hb, hml, hown, hts⟩ (metX2_init_2 l dC dI ci cz am H.size li ma wo di ba (nI cp) (nI tg) hi mi go) (cwV 0 hts (lw_V q192 q193 q194 q17 q195) rfl rfl rfl (by decide +kernel) ⟨Nat.le_of_ble_eq_true rfl, Nat.le_of_ble_eq_true rfl⟩) ⟨q_blind, va_recv hK hPc (ci := 1) (q0 := 0) rfl rfl, fun U hU hW => q_ent hPc hK hDc hU hW⟩ rfl rfl hl.1 rfl (lv_room (Nat.le_of_ble_eq_true rfl)) dL_law_113 ⟨Nat.le_of_ble_eq_true rfl, Nat.le_of_ble_eq_true rfl⟩) hS (fun q _ h => hFc q h) hFc (fun  u t H1 locs ht hvm hwm hB hzq hkq hS => ?_)
  obtain ⟨li1, ma1⟩ := u
  obtain ⟨hP1, hK1, hD1⟩ := hB
  rw [ht] at hP1
  obtain ⟨hP, hD⟩ := va_join (wr := (xw ad ci cz nx1 pv1 lo1 le1 (q_z 64 wo) (q_z 64 di) (q_z 64 ba) (nI cp) (nI 0) (nI 0) (nI 0) (nI 0))) (w1 := (mw am ci cz li1 ma1 (q_z 64 wo) (q_z 64 di) (q_z 64 ba) (nI cp) (nI 0) (nI 0) (nI 0) (nI 0))) hP hD [0, 1, 2, 3, 4, 5] [6, 7, 8, 9, 10, 11, 12, 13] rfl rfl (by decide) (by decide) hkq hFc hP1 hD1
  have hwm : m_rep q_L0 li1 ma1 := hwm
  generalize H1 = H at hP hS ⊢
  have hP : va_P (dC, dI) vwCl ((xw ad ci cz nx1 pv1 lo1 le1 (q_z 64 wo) (q_z 64 di) (q_z 64 ba) (nI cp) (nI 0) (nI 0) (nI 0) (nI 0)) ++ (mw am ci cz li1 ma1 (q_z 64 wo) (q_z 64 di) (q_z 64 ba) (nI cp) (nI 0) (nI 0) (nI 0) (nI 0))) H := hP
  refine lv_goto (tgt := 365) hx hb dL_law_116 (by decide) ?_
  refine KN _ _ ls ⟨_, _, _, _, _, _, _, _, _, _, _, _, _, _, q_in_ok hI, hwx, hwm, hP, hD, hS⟩ (lv_sub hl [0, 1, 2, 3] rfl)
set_option maxHeartbeats 4000000 in
set_option maxRecDepth 100000 in
theorem q_case1 {p : Program} {l : Launch} {e : Env} {s : State} {m : MethodId} {below : List Frame} {meth : Method} {c : Code} {Q : State → Prop} {b N : Nat} {xs : Nat → Int32} {dC : Nat → ClassId} {dI : Nat → Nat → Nat} {ci cz : ClassId} {ad am : Nat → Nat} {cp i : Nat} (hN : N ≤ 193) (C0 : lw_At p s m meth c b N xs) (hi3 : i + 3 ≤ N) (hK : va_K (dC, dI) vwCl (q_ty ci cz) s) (KN : ∀ (H : Heap) (locs : List Loc) (ls : Array Slot), q_In dC dI ci cz ad am cp s H locs → lv_has ls 4 [(0, .ref b), (1, .ref (ad 0)), (2, .ref (am 0)), (3, .int (nI i))] → W p l e room_1 s m #[Value.ref b] below meth c H locs 14 938 Q (F0 m 365 ls [])) : ∀ (H : Heap) (locs : List Loc) (ls : Array Slot), q_In dC dI ci cz ad am cp s H locs → lv_has ls 4 [(0, .ref b), (1, .ref (ad 0)), (2, .ref (am 0)), (3, .int (nI i))] → W p l e room_1 s m #[Value.ref b] below meth c H locs 14 938 Q (F0 m 119 ls []) := by
  intro H locs ls hI9 hl
  obtain ⟨hx, hb, hr, hml, hown, hts0, hX, hbl, hlocks, hgv⟩ := C0
  have hts : ∀ w ∈ lw_all, w.before #[Value.ref b] s = true := fun w h => hts0 w (lw_all_tbl h)
  have hA : ∀ q : Nat, s.heap.size ≤ q → (fun q : Nat => s.heap.size ≤ q) q := fun _ h => h
  have hbA : ¬ (fun q : Nat => s.heap.size ≤ q) b := Nat.not_le.mpr hbl
  obtain ⟨L, tg, di, wo, ba, hi, mi, go, nx, pv, lo, le, li, ma, hI, hRx, hRm, hP, hD, hS⟩ := hI9
  refine lv_aload_n hx hb dL_law_119 rfl (lv_at hl 1 rfl) ?_
  refine lv_aload_n hx hb dL_law_120 rfl (lv_at hl 0 rfl) ?_
  refine lv_iload_n hx hb dL_law_121 rfl (lv_at hl 3 rfl) ?_
  refine lv_iconst (v := (nI 1)) hx hb dL_law_122 (by decide) ?_
  refine q_iadd hx hb dL_law_123 ?_
  refine va_sld hx hb hX hbl hbA hS (vp_in_nI (n := (i + 1)) (N := N) (by omega) (by omega)) dL_law_124 ?_
  refine q_top (y := xs (i + 1)) (by rw [nI_clamp (by omega)]) ?_
  have hPc := hP.sub (ws' := (xw ad ci cz nx pv lo le wo di ba (nI cp) (nI tg) hi mi go)) [0, 1, 2, 3, 4, 5, 6, 7] rfl
  have hDc := hD.sub (ws' := (xw ad ci cz nx pv lo le wo di ba (nI cp) (nI tg) hi mi go)) [0, 1, 2, 3, 4, 5, 6, 7] (by decide) rfl
  have hFc := va_free (wc := (xw ad ci cz nx pv lo le wo di ba (nI cp) (nI tg) hi mi go)) hD hS hA [0, 1, 2, 3, 4, 5, 6, 7] rfl
  refine va_calli (va_runV (As := [.int (xs (i + 1))]) (rest := []) ⟨hx, hb, hml, hown, hts⟩ (metX1_read l dC dI ci cz ad H.size nx pv lo le wo di ba hi mi go (v := xs (i + 1)) hI hRx) (cwV 1 hts (lw_V q70 q71 q72 q16 q73) rfl rfl rfl (by decide +kernel) ⟨Nat.le_of_ble_eq_true rfl, Nat.le_of_ble_eq_true rfl⟩) ⟨q_blind, va_recv hK hPc (ci := 0) (q0 := 0) rfl rfl, fun U hU hW => q_ent hPc hK hDc hU hW⟩ rfl rfl hl.1 rfl (lv_room (Nat.le_of_ble_eq_true rfl)) dL_law_125 ⟨Nat.le_of_ble_eq_true rfl, Nat.le_of_ble_eq_true rfl⟩) hS (fun q _ h => hFc q h) hFc (fun r1 u t H1 locs ht hvm hwx hB hzq hkq hS => ?_)
  obtain ⟨nx1, pv1, lo1, le1⟩ := u
  obtain ⟨hP1, hK1, hD1⟩ := hB
  rw [ht] at hP1
  obtain ⟨hP, hD⟩ := va_join (wr := (mw am ci cz li ma wo di ba (nI cp) (nI tg) hi mi go)) (w1 := (xw ad ci cz nx1 pv1 lo1 le1 ((q_rd cp (xs (i + 1)) L wo ba di tg hi mi go).2.2.1) ((q_rd cp (xs (i + 1)) L wo ba di tg hi mi go).2.2.2.2.1) ((q_rd cp (xs (i + 1)) L wo ba di tg hi mi go).2.2.2.1) (nI cp) (nI (q_rd cp (xs (i + 1)) L wo ba di tg hi mi go).2.2.2.2.2.1) ((q_rd cp (xs (i + 1)) L wo ba di tg hi mi go).2.2.2.2.2.2.1) ((q_rd cp (xs (i + 1)) L wo ba di tg hi mi go).2.2.2.2.2.2.2.1) ((q_rd cp (xs (i + 1)) L wo ba di tg hi mi go).2.2.2.2.2.2.2.2))) hP hD [0, 1, 2, 3, 4, 5, 6, 7] [8, 9, 10, 11, 12, 13] rfl rfl (by decide) (by decide) hkq hFc hP1 hD1
  have hwx : r1 = (q_rd cp (xs (i + 1)) L wo ba di tg hi mi go).1 ∧ x_rep (q_rd cp (xs (i + 1)) L wo ba di tg hi mi go).2.1 nx1 pv1 lo1 le1 := hwx
  generalize H1 = H at hP hS ⊢
  have hP : va_P (dC, dI) vwCl ((mw am ci cz li ma wo di ba (nI cp) (nI tg) hi mi go) ++ (xw ad ci cz nx1 pv1 lo1 le1 ((q_rd cp (xs (i + 1)) L wo ba di tg hi mi go).2.2.1) ((q_rd cp (xs (i + 1)) L wo ba di tg hi mi go).2.2.2.2.1) ((q_rd cp (xs (i + 1)) L wo ba di tg hi mi go).2.2.2.1) (nI cp) (nI (q_rd cp (xs (i + 1)) L wo ba di tg hi mi go).2.2.2.2.2.1) ((q_rd cp (xs (i + 1)) L wo ba di tg hi mi go).2.2.2.2.2.2.1) ((q_rd cp (xs (i + 1)) L wo ba di tg hi mi go).2.2.2.2.2.2.2.1) ((q_rd cp (xs (i + 1)) L wo ba di tg hi mi go).2.2.2.2.2.2.2.2))) H := hP
  refine lv_aload_n hx hb dL_law_128 rfl (lv_at hl 2 rfl) ?_
  refine lv_aload_n hx hb dL_law_129 rfl (lv_at hl 0 rfl) ?_
  refine lv_iload_n hx hb dL_law_130 rfl (lv_at hl 3 rfl) ?_
  refine lv_iconst (v := (nI 1)) hx hb dL_law_131 (by decide) ?_
  refine q_iadd hx hb dL_law_132 ?_
  refine va_sld hx hb hX hbl hbA hS (vp_in_nI (n := (i + 1)) (N := N) (by omega) (by omega)) dL_law_133 ?_
  refine q_top (y := xs (i + 1)) (by rw [nI_clamp (by omega)]) ?_
  have hPc := hP.sub (ws' := (mw am ci cz li ma wo di ba (nI cp) (nI tg) hi mi go)) [0, 1, 2, 3, 4, 5] rfl
  have hDc := hD.sub (ws' := (mw am ci cz li ma wo di ba (nI cp) (nI tg) hi mi go)) [0, 1, 2, 3, 4, 5] (by decide) rfl
  have hFc := va_free (wc := (mw am ci cz li ma wo di ba (nI cp) (nI tg) hi mi go)) hD hS hA [0, 1, 2, 3, 4, 5] rfl
  refine va_calli (va_runV (As := [.int (xs (i + 1))]) (rest := [.int r1]) ⟨hx, hb, hml, hown, hts⟩ (metX2_read l dC dI ci cz am H.size li ma wo di ba hi mi go (v := xs (i + 1)) hI hRm) (cwV 1 hts (lw_V q200 q201 q202 q17 q203) rfl rfl rfl (by decide +kernel) ⟨Nat.le_of_ble_eq_true rfl, Nat.le_of_ble_eq_true rfl⟩) ⟨q_blind, va_recv hK hPc (ci := 1) (q0 := 0) rfl rfl, fun U hU hW => q_ent hPc hK hDc hU hW⟩ rfl rfl hl.1 rfl (lv_room (Nat.le_of_ble_eq_true rfl)) dL_law_134 ⟨Nat.le_of_ble_eq_true rfl, Nat.le_of_ble_eq_true rfl⟩) hS (fun q _ h => hFc q h) hFc (fun r2 u t H1 locs ht hvm hwm hB hzq hkq hS => ?_)
  obtain ⟨li1, ma1⟩ := u
  obtain ⟨hP1, hK1, hD1⟩ := hB
  rw [ht] at hP1
  obtain ⟨hP, hD⟩ := va_join (wr := (xw ad ci cz nx1 pv1 lo1 le1 ((q_rd cp (xs (i + 1)) L wo ba di tg hi mi go).2.2.1) ((q_rd cp (xs (i + 1)) L wo ba di tg hi mi go).2.2.2.2.1) ((q_rd cp (xs (i + 1)) L wo ba di tg hi mi go).2.2.2.1) (nI cp) (nI (q_rd cp (xs (i + 1)) L wo ba di tg hi mi go).2.2.2.2.2.1) ((q_rd cp (xs (i + 1)) L wo ba di tg hi mi go).2.2.2.2.2.2.1) ((q_rd cp (xs (i + 1)) L wo ba di tg hi mi go).2.2.2.2.2.2.2.1) ((q_rd cp (xs (i + 1)) L wo ba di tg hi mi go).2.2.2.2.2.2.2.2))) (w1 := (mw am ci cz li1 ma1 ((q_rd cp (xs (i + 1)) L wo ba di tg hi mi go).2.2.1) ((q_rd cp (xs (i + 1)) L wo ba di tg hi mi go).2.2.2.2.1) ((q_rd cp (xs (i + 1)) L wo ba di tg hi mi go).2.2.2.1) (nI cp) (nI (q_rd cp (xs (i + 1)) L wo ba di tg hi mi go).2.2.2.2.2.1) ((q_rd cp (xs (i + 1)) L wo ba di tg hi mi go).2.2.2.2.2.2.1) ((q_rd cp (xs (i + 1)) L wo ba di tg hi mi go).2.2.2.2.2.2.2.1) ((q_rd cp (xs (i + 1)) L wo ba di tg hi mi go).2.2.2.2.2.2.2.2))) hP hD [0, 1, 2, 3, 4, 5] [6, 7, 8, 9, 10, 11, 12, 13] rfl rfl (by decide) (by decide) hkq hFc hP1 hD1
  have hwm : r2 = (q_rd cp (xs (i + 1)) L wo ba di tg hi mi go).1 ∧ m_rep (q_rd cp (xs (i + 1)) L wo ba di tg hi mi go).2.1 li1 ma1 := hwm
  generalize H1 = H at hP hS ⊢
  have hP : va_P (dC, dI) vwCl ((xw ad ci cz nx1 pv1 lo1 le1 ((q_rd cp (xs (i + 1)) L wo ba di tg hi mi go).2.2.1) ((q_rd cp (xs (i + 1)) L wo ba di tg hi mi go).2.2.2.2.1) ((q_rd cp (xs (i + 1)) L wo ba di tg hi mi go).2.2.2.1) (nI cp) (nI (q_rd cp (xs (i + 1)) L wo ba di tg hi mi go).2.2.2.2.2.1) ((q_rd cp (xs (i + 1)) L wo ba di tg hi mi go).2.2.2.2.2.2.1) ((q_rd cp (xs (i + 1)) L wo ba di tg hi mi go).2.2.2.2.2.2.2.1) ((q_rd cp (xs (i + 1)) L wo ba di tg hi mi go).2.2.2.2.2.2.2.2)) ++ (mw am ci cz li1 ma1 ((q_rd cp (xs (i + 1)) L wo ba di tg hi mi go).2.2.1) ((q_rd cp (xs (i + 1)) L wo ba di tg hi mi go).2.2.2.2.1) ((q_rd cp (xs (i + 1)) L wo ba di tg hi mi go).2.2.2.1) (nI cp) (nI (q_rd cp (xs (i + 1)) L wo ba di tg hi mi go).2.2.2.2.2.1) ((q_rd cp (xs (i + 1)) L wo ba di tg hi mi go).2.2.2.2.2.2.1) ((q_rd cp (xs (i + 1)) L wo ba di tg hi mi go).2.2.2.2.2.2.2.1) ((q_rd cp (xs (i + 1)) L wo ba di tg hi mi go).2.2.2.2.2.2.2.2))) H := hP
  refine lv_icmp_eq (tgt := 365) hx hb dL_law_137 (by decide) (fun hc => ?_) (fun hc => ?_)
  · refine KN _ _ ls ⟨_, _, _, _, _, _, _, _, _, _, _, _, _, _, q_rd_ok hI, hwx.2, hwm.2, hP, hD, hS⟩ (lv_sub hl [0, 1, 2, 3] rfl)
  · exact absurd (hwx.1.trans hwm.1.symm) hc
set_option maxHeartbeats 4000000 in
set_option maxRecDepth 100000 in
theorem q_case2 {p : Program} {l : Launch} {e : Env} {s : State} {m : MethodId} {below : List Frame} {meth : Method} {c : Code} {Q : State → Prop} {b N : Nat} {xs : Nat → Int32} {dC : Nat → ClassId} {dI : Nat → Nat → Nat} {ci cz : ClassId} {ad am : Nat → Nat} {cp i : Nat} (hN : N ≤ 193) (C0 : lw_At p s m meth c b N xs) (hi3 : i + 3 ≤ N) (hK : va_K (dC, dI) vwCl (q_ty ci cz) s) (KN : ∀ (H : Heap) (locs : List Loc) (ls : Array Slot), q_In dC dI ci cz ad am cp s H locs → lv_has ls 4 [(0, .ref b), (1, .ref (ad 0)), (2, .ref (am 0)), (3, .int (nI i))] → W p l e room_1 s m #[Value.ref b] below meth c H locs 14 938 Q (F0 m 365 ls [])) : ∀ (H : Heap) (locs : List Loc) (ls : Array Slot), q_In dC dI ci cz ad am cp s H locs → lv_has ls 4 [(0, .ref b), (1, .ref (ad 0)), (2, .ref (am 0)), (3, .int (nI i))] → W p l e room_1 s m #[Value.ref b] below meth c H locs 14 938 Q (F0 m 142 ls []) := by
  intro H locs ls hI9 hl
  obtain ⟨hx, hb, hr, hml, hown, hts0, hX, hbl, hlocks, hgv⟩ := C0
  have hts : ∀ w ∈ lw_all, w.before #[Value.ref b] s = true := fun w h => hts0 w (lw_all_tbl h)
  have hA : ∀ q : Nat, s.heap.size ≤ q → (fun q : Nat => s.heap.size ≤ q) q := fun _ h => h
  have hbA : ¬ (fun q : Nat => s.heap.size ≤ q) b := Nat.not_le.mpr hbl
  obtain ⟨L, tg, di, wo, ba, hi, mi, go, nx, pv, lo, le, li, ma, hI, hRx, hRm, hP, hD, hS⟩ := hI9
  refine lv_aload_n hx hb dL_law_142 rfl (lv_at hl 1 rfl) ?_
  refine lv_aload_n hx hb dL_law_143 rfl (lv_at hl 0 rfl) ?_
  refine lv_iload_n hx hb dL_law_144 rfl (lv_at hl 3 rfl) ?_
  refine lv_iconst (v := (nI 1)) hx hb dL_law_145 (by decide) ?_
  refine q_iadd hx hb dL_law_146 ?_
  refine va_sld hx hb hX hbl hbA hS (vp_in_nI (n := (i + 1)) (N := N) (by omega) (by omega)) dL_law_147 ?_
  refine q_top (y := xs (i + 1)) (by rw [nI_clamp (by omega)]) ?_
  refine lv_aload_n hx hb dL_law_148 rfl (lv_at hl 0 rfl) ?_
  refine lv_iload_n hx hb dL_law_149 rfl (lv_at hl 3 rfl) ?_
  refine lv_iconst (v := (nI 2)) hx hb dL_law_150 (by decide) ?_
  refine q_iadd hx hb dL_law_151 ?_
  refine va_sld hx hb hX hbl hbA hS (vp_in_nI (n := (i + 2)) (N := N) (by omega) (by omega)) dL_law_152 ?_
  refine q_top (y := xs (i + 2)) (by rw [nI_clamp (by omega)]) ?_
  have hPc := hP.sub (ws' := (xw ad ci cz nx pv lo le wo di ba (nI cp) (nI tg) hi mi go)) [0, 1, 2, 3, 4, 5, 6, 7] rfl
  have hDc := hD.sub (ws' := (xw ad ci cz nx pv lo le wo di ba (nI cp) (nI tg) hi mi go)) [0, 1, 2, 3, 4, 5, 6, 7] (by decide) rfl
  have hFc := va_free (wc := (xw ad ci cz nx pv lo le wo di ba (nI cp) (nI tg) hi mi go)) hD hS hA [0, 1, 2, 3, 4, 5, 6, 7] rfl
  refine va_calli (va_runV (As := [.int (xs (i + 1)), .int (xs (i + 2))]) (rest := []) ⟨hx, hb, hml, hown, hts⟩ (metX1_write l dC dI ci cz ad H.size nx pv lo le wo di ba hi mi go (v := xs (i + 1)) (x := xs (i + 2)) hI hRx) (cwV 2 hts (lw_V q108 q109 q110 q16 q111) rfl rfl rfl (by decide +kernel) ⟨Nat.le_of_ble_eq_true rfl, Nat.le_of_ble_eq_true rfl⟩) ⟨q_blind, va_recv hK hPc (ci := 0) (q0 := 0) rfl rfl, fun U hU hW => q_ent hPc hK hDc hU hW⟩ rfl rfl hl.1 rfl (lv_room (Nat.le_of_ble_eq_true rfl)) dL_law_153 ⟨Nat.le_of_ble_eq_true rfl, Nat.le_of_ble_eq_true rfl⟩) hS (fun q _ h => hFc q h) hFc (fun r1 u t H1 locs ht hvm hwx hB hzq hkq hS => ?_)
  obtain ⟨nx1, pv1, lo1, le1⟩ := u
  obtain ⟨hP1, hK1, hD1⟩ := hB
  rw [ht] at hP1
  obtain ⟨hP, hD⟩ := va_join (wr := (mw am ci cz li ma wo di ba (nI cp) (nI tg) hi mi go)) (w1 := (xw ad ci cz nx1 pv1 lo1 le1 ((q_wr cp (xs (i + 1)) (xs (i + 2)) L wo ba di tg hi mi go).2.2.1) ((q_wr cp (xs (i + 1)) (xs (i + 2)) L wo ba di tg hi mi go).2.2.2.2.1) ((q_wr cp (xs (i + 1)) (xs (i + 2)) L wo ba di tg hi mi go).2.2.2.1) (nI cp) (nI (q_wr cp (xs (i + 1)) (xs (i + 2)) L wo ba di tg hi mi go).2.2.2.2.2.1) ((q_wr cp (xs (i + 1)) (xs (i + 2)) L wo ba di tg hi mi go).2.2.2.2.2.2.1) ((q_wr cp (xs (i + 1)) (xs (i + 2)) L wo ba di tg hi mi go).2.2.2.2.2.2.2.1) ((q_wr cp (xs (i + 1)) (xs (i + 2)) L wo ba di tg hi mi go).2.2.2.2.2.2.2.2))) hP hD [0, 1, 2, 3, 4, 5, 6, 7] [8, 9, 10, 11, 12, 13] rfl rfl (by decide) (by decide) hkq hFc hP1 hD1
  have hwx : r1 = (q_wr cp (xs (i + 1)) (xs (i + 2)) L wo ba di tg hi mi go).1 ∧ x_rep (q_wr cp (xs (i + 1)) (xs (i + 2)) L wo ba di tg hi mi go).2.1 nx1 pv1 lo1 le1 := hwx
  generalize H1 = H at hP hS ⊢
  have hP : va_P (dC, dI) vwCl ((mw am ci cz li ma wo di ba (nI cp) (nI tg) hi mi go) ++ (xw ad ci cz nx1 pv1 lo1 le1 ((q_wr cp (xs (i + 1)) (xs (i + 2)) L wo ba di tg hi mi go).2.2.1) ((q_wr cp (xs (i + 1)) (xs (i + 2)) L wo ba di tg hi mi go).2.2.2.2.1) ((q_wr cp (xs (i + 1)) (xs (i + 2)) L wo ba di tg hi mi go).2.2.2.1) (nI cp) (nI (q_wr cp (xs (i + 1)) (xs (i + 2)) L wo ba di tg hi mi go).2.2.2.2.2.1) ((q_wr cp (xs (i + 1)) (xs (i + 2)) L wo ba di tg hi mi go).2.2.2.2.2.2.1) ((q_wr cp (xs (i + 1)) (xs (i + 2)) L wo ba di tg hi mi go).2.2.2.2.2.2.2.1) ((q_wr cp (xs (i + 1)) (xs (i + 2)) L wo ba di tg hi mi go).2.2.2.2.2.2.2.2))) H := hP
  refine lv_aload_n hx hb dL_law_156 rfl (lv_at hl 2 rfl) ?_
  refine lv_aload_n hx hb dL_law_157 rfl (lv_at hl 0 rfl) ?_
  refine lv_iload_n hx hb dL_law_158 rfl (lv_at hl 3 rfl) ?_
  refine lv_iconst (v := (nI 1)) hx hb dL_law_159 (by decide) ?_
  refine q_iadd hx hb dL_law_160 ?_
  refine va_sld hx hb hX hbl hbA hS (vp_in_nI (n := (i + 1)) (N := N) (by omega) (by omega)) dL_law_161 ?_
  refine q_top (y := xs (i + 1)) (by rw [nI_clamp (by omega)]) ?_
  refine lv_aload_n hx hb dL_law_162 rfl (lv_at hl 0 rfl) ?_
  refine lv_iload_n hx hb dL_law_163 rfl (lv_at hl 3 rfl) ?_
  refine lv_iconst (v := (nI 2)) hx hb dL_law_164 (by decide) ?_
  refine q_iadd hx hb dL_law_165 ?_
  refine va_sld hx hb hX hbl hbA hS (vp_in_nI (n := (i + 2)) (N := N) (by omega) (by omega)) dL_law_166 ?_
  refine q_top (y := xs (i + 2)) (by rw [nI_clamp (by omega)]) ?_
  have hPc := hP.sub (ws' := (mw am ci cz li ma wo di ba (nI cp) (nI tg) hi mi go)) [0, 1, 2, 3, 4, 5] rfl
  have hDc := hD.sub (ws' := (mw am ci cz li ma wo di ba (nI cp) (nI tg) hi mi go)) [0, 1, 2, 3, 4, 5] (by decide) rfl
  have hFc := va_free (wc := (mw am ci cz li ma wo di ba (nI cp) (nI tg) hi mi go)) hD hS hA [0, 1, 2, 3, 4, 5] rfl
  refine va_calli (va_runV (As := [.int (xs (i + 1)), .int (xs (i + 2))]) (rest := [.int r1]) ⟨hx, hb, hml, hown, hts⟩ (metX2_write l dC dI ci cz am H.size li ma wo di ba hi mi go (v := xs (i + 1)) (x := xs (i + 2)) hI hRm) (cwV 2 hts (lw_V q240 q241 q242 q17 q243) rfl rfl rfl (by decide +kernel) ⟨Nat.le_of_ble_eq_true rfl, Nat.le_of_ble_eq_true rfl⟩) ⟨q_blind, va_recv hK hPc (ci := 1) (q0 := 0) rfl rfl, fun U hU hW => q_ent hPc hK hDc hU hW⟩ rfl rfl hl.1 rfl (lv_room (Nat.le_of_ble_eq_true rfl)) dL_law_167 ⟨Nat.le_of_ble_eq_true rfl, Nat.le_of_ble_eq_true rfl⟩) hS (fun q _ h => hFc q h) hFc (fun r2 u t H1 locs ht hvm hwm hB hzq hkq hS => ?_)
  obtain ⟨li1, ma1⟩ := u
  obtain ⟨hP1, hK1, hD1⟩ := hB
  rw [ht] at hP1
  obtain ⟨hP, hD⟩ := va_join (wr := (xw ad ci cz nx1 pv1 lo1 le1 ((q_wr cp (xs (i + 1)) (xs (i + 2)) L wo ba di tg hi mi go).2.2.1) ((q_wr cp (xs (i + 1)) (xs (i + 2)) L wo ba di tg hi mi go).2.2.2.2.1) ((q_wr cp (xs (i + 1)) (xs (i + 2)) L wo ba di tg hi mi go).2.2.2.1) (nI cp) (nI (q_wr cp (xs (i + 1)) (xs (i + 2)) L wo ba di tg hi mi go).2.2.2.2.2.1) ((q_wr cp (xs (i + 1)) (xs (i + 2)) L wo ba di tg hi mi go).2.2.2.2.2.2.1) ((q_wr cp (xs (i + 1)) (xs (i + 2)) L wo ba di tg hi mi go).2.2.2.2.2.2.2.1) ((q_wr cp (xs (i + 1)) (xs (i + 2)) L wo ba di tg hi mi go).2.2.2.2.2.2.2.2))) (w1 := (mw am ci cz li1 ma1 ((q_wr cp (xs (i + 1)) (xs (i + 2)) L wo ba di tg hi mi go).2.2.1) ((q_wr cp (xs (i + 1)) (xs (i + 2)) L wo ba di tg hi mi go).2.2.2.2.1) ((q_wr cp (xs (i + 1)) (xs (i + 2)) L wo ba di tg hi mi go).2.2.2.1) (nI cp) (nI (q_wr cp (xs (i + 1)) (xs (i + 2)) L wo ba di tg hi mi go).2.2.2.2.2.1) ((q_wr cp (xs (i + 1)) (xs (i + 2)) L wo ba di tg hi mi go).2.2.2.2.2.2.1) ((q_wr cp (xs (i + 1)) (xs (i + 2)) L wo ba di tg hi mi go).2.2.2.2.2.2.2.1) ((q_wr cp (xs (i + 1)) (xs (i + 2)) L wo ba di tg hi mi go).2.2.2.2.2.2.2.2))) hP hD [0, 1, 2, 3, 4, 5] [6, 7, 8, 9, 10, 11, 12, 13] rfl rfl (by decide) (by decide) hkq hFc hP1 hD1
  have hwm : r2 = (q_wr cp (xs (i + 1)) (xs (i + 2)) L wo ba di tg hi mi go).1 ∧ m_rep (q_wr cp (xs (i + 1)) (xs (i + 2)) L wo ba di tg hi mi go).2.1 li1 ma1 := hwm
  generalize H1 = H at hP hS ⊢
  have hP : va_P (dC, dI) vwCl ((xw ad ci cz nx1 pv1 lo1 le1 ((q_wr cp (xs (i + 1)) (xs (i + 2)) L wo ba di tg hi mi go).2.2.1) ((q_wr cp (xs (i + 1)) (xs (i + 2)) L wo ba di tg hi mi go).2.2.2.2.1) ((q_wr cp (xs (i + 1)) (xs (i + 2)) L wo ba di tg hi mi go).2.2.2.1) (nI cp) (nI (q_wr cp (xs (i + 1)) (xs (i + 2)) L wo ba di tg hi mi go).2.2.2.2.2.1) ((q_wr cp (xs (i + 1)) (xs (i + 2)) L wo ba di tg hi mi go).2.2.2.2.2.2.1) ((q_wr cp (xs (i + 1)) (xs (i + 2)) L wo ba di tg hi mi go).2.2.2.2.2.2.2.1) ((q_wr cp (xs (i + 1)) (xs (i + 2)) L wo ba di tg hi mi go).2.2.2.2.2.2.2.2)) ++ (mw am ci cz li1 ma1 ((q_wr cp (xs (i + 1)) (xs (i + 2)) L wo ba di tg hi mi go).2.2.1) ((q_wr cp (xs (i + 1)) (xs (i + 2)) L wo ba di tg hi mi go).2.2.2.2.1) ((q_wr cp (xs (i + 1)) (xs (i + 2)) L wo ba di tg hi mi go).2.2.2.1) (nI cp) (nI (q_wr cp (xs (i + 1)) (xs (i + 2)) L wo ba di tg hi mi go).2.2.2.2.2.1) ((q_wr cp (xs (i + 1)) (xs (i + 2)) L wo ba di tg hi mi go).2.2.2.2.2.2.1) ((q_wr cp (xs (i + 1)) (xs (i + 2)) L wo ba di tg hi mi go).2.2.2.2.2.2.2.1) ((q_wr cp (xs (i + 1)) (xs (i + 2)) L wo ba di tg hi mi go).2.2.2.2.2.2.2.2))) H := hP
  refine lv_icmp_eq (tgt := 365) hx hb dL_law_170 (by decide) (fun hc => ?_) (fun hc => ?_)
  · refine KN _ _ ls ⟨_, _, _, _, _, _, _, _, _, _, _, _, _, _, q_wr_ok hI, hwx.2, hwm.2, hP, hD, hS⟩ (lv_sub hl [0, 1, 2, 3] rfl)
  · exact absurd (hwx.1.trans hwm.1.symm) hc
set_option maxHeartbeats 4000000 in
set_option maxRecDepth 100000 in
theorem q_case3 {p : Program} {l : Launch} {e : Env} {s : State} {m : MethodId} {below : List Frame} {meth : Method} {c : Code} {Q : State → Prop} {b N : Nat} {xs : Nat → Int32} {dC : Nat → ClassId} {dI : Nat → Nat → Nat} {ci cz : ClassId} {ad am : Nat → Nat} {cp i : Nat} (hN : N ≤ 193) (C0 : lw_At p s m meth c b N xs) (hi3 : i + 3 ≤ N) (hK : va_K (dC, dI) vwCl (q_ty ci cz) s) (KN : ∀ (H : Heap) (locs : List Loc) (ls : Array Slot), q_In dC dI ci cz ad am cp s H locs → lv_has ls 4 [(0, .ref b), (1, .ref (ad 0)), (2, .ref (am 0)), (3, .int (nI i))] → W p l e room_1 s m #[Value.ref b] below meth c H locs 14 938 Q (F0 m 365 ls [])) : ∀ (H : Heap) (locs : List Loc) (ls : Array Slot), q_In dC dI ci cz ad am cp s H locs → lv_has ls 4 [(0, .ref b), (1, .ref (ad 0)), (2, .ref (am 0)), (3, .int (nI i))] → W p l e room_1 s m #[Value.ref b] below meth c H locs 14 938 Q (F0 m 175 ls []) := by
  intro H locs ls hI9 hl
  obtain ⟨hx, hb, hr, hml, hown, hts0, hX, hbl, hlocks, hgv⟩ := C0
  have hts : ∀ w ∈ lw_all, w.before #[Value.ref b] s = true := fun w h => hts0 w (lw_all_tbl h)
  have hA : ∀ q : Nat, s.heap.size ≤ q → (fun q : Nat => s.heap.size ≤ q) q := fun _ h => h
  have hbA : ¬ (fun q : Nat => s.heap.size ≤ q) b := Nat.not_le.mpr hbl
  obtain ⟨L, tg, di, wo, ba, hi, mi, go, nx, pv, lo, le, li, ma, hI, hRx, hRm, hP, hD, hS⟩ := hI9
  refine lv_aload_n hx hb dL_law_175 rfl (lv_at hl 1 rfl) ?_
  have hPc := hP.sub (ws' := (xw ad ci cz nx pv lo le wo di ba (nI cp) (nI tg) hi mi go)) [0, 1, 2, 3, 4, 5, 6, 7] rfl
  have hDc := hD.sub (ws' := (xw ad ci cz nx pv lo le wo di ba (nI cp) (nI tg) hi mi go)) [0, 1, 2, 3, 4, 5, 6, 7] (by decide) rfl
  have hFc := va_free (wc := (xw ad ci cz nx pv lo le wo di ba (nI cp) (nI tg) hi mi go)) hD hS hA [0, 1, 2, 3, 4, 5, 6, 7] rfl
  refine va_calli (va_runV (As := []) (rest := []) ⟨hx, hb, hml, hown, hts⟩ (metX1_flush l dC dI ci cz ad H.size nx pv lo le wo di ba (nI cp) (nI tg) hi mi go) (cwV 0 hts (lw_V q112 q113 q114 q16 q115) rfl rfl rfl (by decide +kernel) ⟨Nat.le_of_ble_eq_true rfl, Nat.le_of_ble_eq_true rfl⟩) ⟨q_blind, va_recv hK hPc (ci := 0) (q0 := 0) rfl rfl, fun U hU hW => q_ent hPc hK hDc hU hW⟩ rfl rfl hl.1 rfl (lv_room (Nat.le_of_ble_eq_true rfl)) dL_law_176 ⟨Nat.le_of_ble_eq_true rfl, Nat.le_of_ble_eq_true rfl⟩) hS (fun q _ h => hFc q h) hFc (fun r1 u t H1 locs ht hvm hwx hB hzq hkq hS => ?_)
  obtain ⟨hP1, hK1, hD1⟩ := hB
  rw [ht] at hP1
  obtain ⟨hP, hD⟩ := va_join (wr := (mw am ci cz li ma wo di ba (nI cp) (nI tg) hi mi go)) (w1 := (xw ad ci cz nx pv lo le wo (q_z 64 di) (q_fb 64 wo ba di) (nI cp) (nI tg) hi mi go)) hP hD [0, 1, 2, 3, 4, 5, 6, 7] [8, 9, 10, 11, 12, 13] rfl rfl (by decide) (by decide) hkq hFc hP1 hD1
  have hwx : r1 = q_ct di 64 := hwx
  generalize H1 = H at hP hS ⊢
  have hP : va_P (dC, dI) vwCl ((mw am ci cz li ma wo di ba (nI cp) (nI tg) hi mi go) ++ (xw ad ci cz nx pv lo le wo (q_z 64 di) (q_fb 64 wo ba di) (nI cp) (nI tg) hi mi go)) H := hP
  refine lv_aload_n hx hb dL_law_179 rfl (lv_at hl 2 rfl) ?_
  have hPc := hP.sub (ws' := (mw am ci cz li ma wo di ba (nI cp) (nI tg) hi mi go)) [0, 1, 2, 3, 4, 5] rfl
  have hDc := hD.sub (ws' := (mw am ci cz li ma wo di ba (nI cp) (nI tg) hi mi go)) [0, 1, 2, 3, 4, 5] (by decide) rfl
  have hFc := va_free (wc := (mw am ci cz li ma wo di ba (nI cp) (nI tg) hi mi go)) hD hS hA [0, 1, 2, 3, 4, 5] rfl
  refine va_calli (va_runV (As := []) (rest := [.int r1]) ⟨hx, hb, hml, hown, hts⟩ (metX2_flush l dC dI ci cz am H.size li ma wo di ba (nI cp) (nI tg) hi mi go) (cwV 0 hts (lw_V q244 q245 q246 q17 q247) rfl rfl rfl (by decide +kernel) ⟨Nat.le_of_ble_eq_true rfl, Nat.le_of_ble_eq_true rfl⟩) ⟨q_blind, va_recv hK hPc (ci := 1) (q0 := 0) rfl rfl, fun U hU hW => q_ent hPc hK hDc hU hW⟩ rfl rfl hl.1 rfl (lv_room (Nat.le_of_ble_eq_true rfl)) dL_law_180 ⟨Nat.le_of_ble_eq_true rfl, Nat.le_of_ble_eq_true rfl⟩) hS (fun q _ h => hFc q h) hFc (fun r2 u t H1 locs ht hvm hwm hB hzq hkq hS => ?_)
  obtain ⟨hP1, hK1, hD1⟩ := hB
  rw [ht] at hP1
  obtain ⟨hP, hD⟩ := va_join (wr := (xw ad ci cz nx pv lo le wo (q_z 64 di) (q_fb 64 wo ba di) (nI cp) (nI tg) hi mi go)) (w1 := (mw am ci cz li ma wo (q_z 64 di) (q_fb 64 wo ba di) (nI cp) (nI tg) hi mi go)) hP hD [0, 1, 2, 3, 4, 5] [6, 7, 8, 9, 10, 11, 12, 13] rfl rfl (by decide) (by decide) hkq hFc hP1 hD1
  have hwm : r2 = q_ct di 64 := hwm
  generalize H1 = H at hP hS ⊢
  have hP : va_P (dC, dI) vwCl ((xw ad ci cz nx pv lo le wo (q_z 64 di) (q_fb 64 wo ba di) (nI cp) (nI tg) hi mi go) ++ (mw am ci cz li ma wo (q_z 64 di) (q_fb 64 wo ba di) (nI cp) (nI tg) hi mi go)) H := hP
  refine lv_icmp_eq (tgt := 365) hx hb dL_law_183 (by decide) (fun hc => ?_) (fun hc => ?_)
  · refine KN _ _ ls ⟨_, _, _, _, _, _, _, _, _, _, _, _, _, _, q_fl_ok hI, hRx, hRm, hP, hD, hS⟩ (lv_sub hl [0, 1, 2, 3] rfl)
  · exact absurd (hwx.trans hwm.symm) hc
end
section
set_option maxHeartbeats 4000000 in
set_option maxRecDepth 100000 in
theorem q_case4 {p : Program} {l : Launch} {e : Env} {s : State} {m : MethodId} {below : List Frame} {meth : Method} {c : Code} {Q : State → Prop} {b N : Nat} {xs : Nat → Int32} {dC : Nat → ClassId} {dI : Nat → Nat → Nat} {ci cz : ClassId} {ad am : Nat → Nat} {cp i : Nat} (hN : N ≤ 193) (C0 : lw_At p s m meth c b N xs) (hi3 : i + 3 ≤ N) (hK : va_K (dC, dI) vwCl (q_ty ci cz) s) (KN : ∀ (H : Heap) (locs : List Loc) (ls : Array Slot), q_In dC dI ci cz ad am cp s H locs → lv_has ls 4 [(0, .ref b), (1, .ref (ad 0)), (2, .ref (am 0)), (3, .int (nI i))] → W p l e room_1 s m #[Value.ref b] below meth c H locs 14 938 Q (F0 m 365 ls [])) : ∀ (H : Heap) (locs : List Loc) (ls : Array Slot), q_In dC dI ci cz ad am cp s H locs → lv_has ls 4 [(0, .ref b), (1, .ref (ad 0)), (2, .ref (am 0)), (3, .int (nI i))] → W p l e room_1 s m #[Value.ref b] below meth c H locs 14 938 Q (F0 m 188 ls []) := by
  intro H locs ls hI9 hl
  obtain ⟨hx, hb, hr, hml, hown, hts0, hX, hbl, hlocks, hgv⟩ := C0
  have hts : ∀ w ∈ lw_all, w.before #[Value.ref b] s = true := fun w h => hts0 w (lw_all_tbl h)
  have hA : ∀ q : Nat, s.heap.size ≤ q → (fun q : Nat => s.heap.size ≤ q) q := fun _ h => h
  have hbA : ¬ (fun q : Nat => s.heap.size ≤ q) b := Nat.not_le.mpr hbl
  obtain ⟨L, tg, di, wo, ba, hi, mi, go, nx, pv, lo, le, li, ma, hI, hRx, hRm, hP, hD, hS⟩ := hI9
  refine lv_aload_n hx hb dL_law_188 rfl (lv_at hl 1 rfl) ?_
  refine lv_aload_n hx hb dL_law_189 rfl (lv_at hl 0 rfl) ?_
  refine lv_iload_n hx hb dL_law_190 rfl (lv_at hl 3 rfl) ?_
  refine lv_iconst (v := (nI 1)) hx hb dL_law_191 (by decide) ?_
  refine q_iadd hx hb dL_law_192 ?_
  refine va_sld hx hb hX hbl hbA hS (vp_in_nI (n := (i + 1)) (N := N) (by omega) (by omega)) dL_law_193 ?_
  refine q_top (y := xs (i + 1)) (by rw [nI_clamp (by omega)]) ?_
  have hPc := hP.sub (ws' := (xw ad ci cz nx pv lo le wo di ba (nI cp) (nI tg) hi mi go)) [0, 1, 2, 3, 4, 5, 6, 7] rfl
  have hDc := hD.sub (ws' := (xw ad ci cz nx pv lo le wo di ba (nI cp) (nI tg) hi mi go)) [0, 1, 2, 3, 4, 5, 6, 7] (by decide) rfl
  have hFc := va_free (wc := (xw ad ci cz nx pv lo le wo di ba (nI cp) (nI tg) hi mi go)) hD hS hA [0, 1, 2, 3, 4, 5, 6, 7] rfl
  refine va_calli (va_runV (As := [.int (xs (i + 1))]) (rest := []) ⟨hx, hb, hml, hown, hts⟩ (metX1_whichList l dC dI ci cz ad H.size nx pv lo le wo di ba (nI cp) (nI tg) hi mi go (v := xs (i + 1)) hRx) (cwV 1 hts (lw_V q116 q117 q118 q16 q119) rfl rfl rfl (by decide +kernel) ⟨Nat.le_of_ble_eq_true rfl, Nat.le_of_ble_eq_true rfl⟩) ⟨q_blind, va_recv hK hPc (ci := 0) (q0 := 0) rfl rfl, fun U hU hW => q_ent hPc hK hDc hU hW⟩ rfl rfl hl.1 rfl (lv_room (Nat.le_of_ble_eq_true rfl)) dL_law_194 ⟨Nat.le_of_ble_eq_true rfl, Nat.le_of_ble_eq_true rfl⟩) hS (fun q _ h => hFc q h) hFc (fun r1 u t H1 locs ht hvm hwx hB hzq hkq hS => ?_)
  obtain ⟨hP1, hK1, hD1⟩ := hB
  rw [ht] at hP1
  obtain ⟨hP, hD⟩ := va_join (wr := (mw am ci cz li ma wo di ba (nI cp) (nI tg) hi mi go)) (w1 := (xw ad ci cz nx pv lo le wo di ba (nI cp) (nI tg) hi mi go)) hP hD [0, 1, 2, 3, 4, 5, 6, 7] [8, 9, 10, 11, 12, 13] rfl rfl (by decide) (by decide) hkq hFc hP1 hD1
  have hwx : r1 = q_so (q_wlf L) (xs (i + 1)) := hwx
  generalize H1 = H at hP hS ⊢
  have hP : va_P (dC, dI) vwCl ((mw am ci cz li ma wo di ba (nI cp) (nI tg) hi mi go) ++ (xw ad ci cz nx pv lo le wo di ba (nI cp) (nI tg) hi mi go)) H := hP
  refine lv_aload_n hx hb dL_law_197 rfl (lv_at hl 2 rfl) ?_
  refine lv_aload_n hx hb dL_law_198 rfl (lv_at hl 0 rfl) ?_
  refine lv_iload_n hx hb dL_law_199 rfl (lv_at hl 3 rfl) ?_
  refine lv_iconst (v := (nI 1)) hx hb dL_law_200 (by decide) ?_
  refine q_iadd hx hb dL_law_201 ?_
  refine va_sld hx hb hX hbl hbA hS (vp_in_nI (n := (i + 1)) (N := N) (by omega) (by omega)) dL_law_202 ?_
  refine q_top (y := xs (i + 1)) (by rw [nI_clamp (by omega)]) ?_
  have hPc := hP.sub (ws' := (mw am ci cz li ma wo di ba (nI cp) (nI tg) hi mi go)) [0, 1, 2, 3, 4, 5] rfl
  have hDc := hD.sub (ws' := (mw am ci cz li ma wo di ba (nI cp) (nI tg) hi mi go)) [0, 1, 2, 3, 4, 5] (by decide) rfl
  have hFc := va_free (wc := (mw am ci cz li ma wo di ba (nI cp) (nI tg) hi mi go)) hD hS hA [0, 1, 2, 3, 4, 5] rfl
  refine va_calli (va_runV (As := [.int (xs (i + 1))]) (rest := [.int r1]) ⟨hx, hb, hml, hown, hts⟩ (metX2_whichList l dC dI ci cz am H.size li ma wo di ba (nI cp) (nI tg) hi mi go (v := xs (i + 1)) hI.1.1 hRm) (cwV 1 hts (lw_V q196 q197 q198 q17 q199) rfl rfl rfl (by decide +kernel) ⟨Nat.le_of_ble_eq_true rfl, Nat.le_of_ble_eq_true rfl⟩) ⟨q_blind, va_recv hK hPc (ci := 1) (q0 := 0) rfl rfl, fun U hU hW => q_ent hPc hK hDc hU hW⟩ rfl rfl hl.1 rfl (lv_room (Nat.le_of_ble_eq_true rfl)) dL_law_203 ⟨Nat.le_of_ble_eq_true rfl, Nat.le_of_ble_eq_true rfl⟩) hS (fun q _ h => hFc q h) hFc (fun r2 u t H1 locs ht hvm hwm hB hzq hkq hS => ?_)
  obtain ⟨hP1, hK1, hD1⟩ := hB
  rw [ht] at hP1
  obtain ⟨hP, hD⟩ := va_join (wr := (xw ad ci cz nx pv lo le wo di ba (nI cp) (nI tg) hi mi go)) (w1 := (mw am ci cz li ma wo di ba (nI cp) (nI tg) hi mi go)) hP hD [0, 1, 2, 3, 4, 5] [6, 7, 8, 9, 10, 11, 12, 13] rfl rfl (by decide) (by decide) hkq hFc hP1 hD1
  have hwm : r2 = q_so (q_wlf L) (xs (i + 1)) := hwm
  generalize H1 = H at hP hS ⊢
  have hP : va_P (dC, dI) vwCl ((xw ad ci cz nx pv lo le wo di ba (nI cp) (nI tg) hi mi go) ++ (mw am ci cz li ma wo di ba (nI cp) (nI tg) hi mi go)) H := hP
  refine lv_icmp_eq (tgt := 365) hx hb dL_law_206 (by decide) (fun hc => ?_) (fun hc => ?_)
  · refine KN _ _ ls ⟨_, _, _, _, _, _, _, _, _, _, _, _, _, _, hI, hRx, hRm, hP, hD, hS⟩ (lv_sub hl [0, 1, 2, 3] rfl)
  · exact absurd (hwx.trans hwm.symm) hc
set_option maxHeartbeats 4000000 in
set_option maxRecDepth 100000 in
theorem q_case5 {p : Program} {l : Launch} {e : Env} {s : State} {m : MethodId} {below : List Frame} {meth : Method} {c : Code} {Q : State → Prop} {b N : Nat} {xs : Nat → Int32} {dC : Nat → ClassId} {dI : Nat → Nat → Nat} {ci cz : ClassId} {ad am : Nat → Nat} {cp i : Nat} (hN : N ≤ 193) (C0 : lw_At p s m meth c b N xs) (hi3 : i + 3 ≤ N) (hK : va_K (dC, dI) vwCl (q_ty ci cz) s) (KN : ∀ (H : Heap) (locs : List Loc) (ls : Array Slot), q_In dC dI ci cz ad am cp s H locs → lv_has ls 4 [(0, .ref b), (1, .ref (ad 0)), (2, .ref (am 0)), (3, .int (nI i))] → W p l e room_1 s m #[Value.ref b] below meth c H locs 14 938 Q (F0 m 365 ls [])) : ∀ (H : Heap) (locs : List Loc) (ls : Array Slot), q_In dC dI ci cz ad am cp s H locs → lv_has ls 4 [(0, .ref b), (1, .ref (ad 0)), (2, .ref (am 0)), (3, .int (nI i))] → W p l e room_1 s m #[Value.ref b] below meth c H locs 14 938 Q (F0 m 211 ls []) := by
  intro H locs ls hI9 hl
  obtain ⟨hx, hb, hr, hml, hown, hts0, hX, hbl, hlocks, hgv⟩ := C0
  have hts : ∀ w ∈ lw_all, w.before #[Value.ref b] s = true := fun w h => hts0 w (lw_all_tbl h)
  have hA : ∀ q : Nat, s.heap.size ≤ q → (fun q : Nat => s.heap.size ≤ q) q := fun _ h => h
  have hbA : ¬ (fun q : Nat => s.heap.size ≤ q) b := Nat.not_le.mpr hbl
  obtain ⟨L, tg, di, wo, ba, hi, mi, go, nx, pv, lo, le, li, ma, hI, hRx, hRm, hP, hD, hS⟩ := hI9
  refine lv_aload_n hx hb dL_law_211 rfl (lv_at hl 1 rfl) ?_
  refine lv_aload_n hx hb dL_law_212 rfl (lv_at hl 0 rfl) ?_
  refine lv_iload_n hx hb dL_law_213 rfl (lv_at hl 3 rfl) ?_
  refine lv_iconst (v := (nI 1)) hx hb dL_law_214 (by decide) ?_
  refine q_iadd hx hb dL_law_215 ?_
  refine va_sld hx hb hX hbl hbA hS (vp_in_nI (n := (i + 1)) (N := N) (by omega) (by omega)) dL_law_216 ?_
  refine q_top (y := xs (i + 1)) (by rw [nI_clamp (by omega)]) ?_
  refine lv_aload_n hx hb dL_law_217 rfl (lv_at hl 0 rfl) ?_
  refine lv_iload_n hx hb dL_law_218 rfl (lv_at hl 3 rfl) ?_
  refine lv_iconst (v := (nI 2)) hx hb dL_law_219 (by decide) ?_
  refine q_iadd hx hb dL_law_220 ?_
  refine va_sld hx hb hX hbl hbA hS (vp_in_nI (n := (i + 2)) (N := N) (by omega) (by omega)) dL_law_221 ?_
  refine q_top (y := xs (i + 2)) (by rw [nI_clamp (by omega)]) ?_
  have hPc := hP.sub (ws' := (xw ad ci cz nx pv lo le wo di ba (nI cp) (nI tg) hi mi go)) [0, 1, 2, 3, 4, 5, 6, 7] rfl
  have hDc := hD.sub (ws' := (xw ad ci cz nx pv lo le wo di ba (nI cp) (nI tg) hi mi go)) [0, 1, 2, 3, 4, 5, 6, 7] (by decide) rfl
  have hFc := va_free (wc := (xw ad ci cz nx pv lo le wo di ba (nI cp) (nI tg) hi mi go)) hD hS hA [0, 1, 2, 3, 4, 5, 6, 7] rfl
  refine va_calli (va_runV (As := [.int (xs (i + 1)), .int (xs (i + 2))]) (rest := []) ⟨hx, hb, hml, hown, hts⟩ (metX1_at l dC dI ci cz ad H.size nx pv lo le wo di ba (nI cp) (nI tg) hi mi go (v := xs (i + 1)) (x := xs (i + 2)) hI.1.1 hRx) (cwV 2 hts (lw_V q120 q121 q122 q16 q123) rfl rfl rfl (by decide +kernel) ⟨Nat.le_of_ble_eq_true rfl, Nat.le_of_ble_eq_true rfl⟩) ⟨q_blind, va_recv hK hPc (ci := 0) (q0 := 0) rfl rfl, fun U hU hW => q_ent hPc hK hDc hU hW⟩ rfl rfl hl.1 rfl (lv_room (Nat.le_of_ble_eq_true rfl)) dL_law_222 ⟨Nat.le_of_ble_eq_true rfl, Nat.le_of_ble_eq_true rfl⟩) hS (fun q _ h => hFc q h) hFc (fun r1 u t H1 locs ht hvm hwx hB hzq hkq hS => ?_)
  obtain ⟨hP1, hK1, hD1⟩ := hB
  rw [ht] at hP1
  obtain ⟨hP, hD⟩ := va_join (wr := (mw am ci cz li ma wo di ba (nI cp) (nI tg) hi mi go)) (w1 := (xw ad ci cz nx pv lo le wo di ba (nI cp) (nI tg) hi mi go)) hP hD [0, 1, 2, 3, 4, 5, 6, 7] [8, 9, 10, 11, 12, 13] rfl rfl (by decide) (by decide) hkq hFc hP1 hD1
  have hwx : r1 = q_at L (xs (i + 1)) (xs (i + 2)) := hwx
  generalize H1 = H at hP hS ⊢
  have hP : va_P (dC, dI) vwCl ((mw am ci cz li ma wo di ba (nI cp) (nI tg) hi mi go) ++ (xw ad ci cz nx pv lo le wo di ba (nI cp) (nI tg) hi mi go)) H := hP
  refine lv_aload_n hx hb dL_law_225 rfl (lv_at hl 2 rfl) ?_
  refine lv_aload_n hx hb dL_law_226 rfl (lv_at hl 0 rfl) ?_
  refine lv_iload_n hx hb dL_law_227 rfl (lv_at hl 3 rfl) ?_
  refine lv_iconst (v := (nI 1)) hx hb dL_law_228 (by decide) ?_
  refine q_iadd hx hb dL_law_229 ?_
  refine va_sld hx hb hX hbl hbA hS (vp_in_nI (n := (i + 1)) (N := N) (by omega) (by omega)) dL_law_230 ?_
  refine q_top (y := xs (i + 1)) (by rw [nI_clamp (by omega)]) ?_
  refine lv_aload_n hx hb dL_law_231 rfl (lv_at hl 0 rfl) ?_
  refine lv_iload_n hx hb dL_law_232 rfl (lv_at hl 3 rfl) ?_
  refine lv_iconst (v := (nI 2)) hx hb dL_law_233 (by decide) ?_
  refine q_iadd hx hb dL_law_234 ?_
  refine va_sld hx hb hX hbl hbA hS (vp_in_nI (n := (i + 2)) (N := N) (by omega) (by omega)) dL_law_235 ?_
  refine q_top (y := xs (i + 2)) (by rw [nI_clamp (by omega)]) ?_
  have hPc := hP.sub (ws' := (mw am ci cz li ma wo di ba (nI cp) (nI tg) hi mi go)) [0, 1, 2, 3, 4, 5] rfl
  have hDc := hD.sub (ws' := (mw am ci cz li ma wo di ba (nI cp) (nI tg) hi mi go)) [0, 1, 2, 3, 4, 5] (by decide) rfl
  have hFc := va_free (wc := (mw am ci cz li ma wo di ba (nI cp) (nI tg) hi mi go)) hD hS hA [0, 1, 2, 3, 4, 5] rfl
  refine va_calli (va_runV (As := [.int (xs (i + 1)), .int (xs (i + 2))]) (rest := [.int r1]) ⟨hx, hb, hml, hown, hts⟩ (metX2_at l dC dI ci cz am H.size li ma wo di ba (nI cp) (nI tg) hi mi go (v := xs (i + 1)) (x := xs (i + 2)) hI.1.1 hRm) (cwV 2 hts (lw_V q248 q249 q250 q17 q251) rfl rfl rfl (by decide +kernel) ⟨Nat.le_of_ble_eq_true rfl, Nat.le_of_ble_eq_true rfl⟩) ⟨q_blind, va_recv hK hPc (ci := 1) (q0 := 0) rfl rfl, fun U hU hW => q_ent hPc hK hDc hU hW⟩ rfl rfl hl.1 rfl (lv_room (Nat.le_of_ble_eq_true rfl)) dL_law_236 ⟨Nat.le_of_ble_eq_true rfl, Nat.le_of_ble_eq_true rfl⟩) hS (fun q _ h => hFc q h) hFc (fun r2 u t H1 locs ht hvm hwm hB hzq hkq hS => ?_)
  obtain ⟨hP1, hK1, hD1⟩ := hB
  rw [ht] at hP1
  obtain ⟨hP, hD⟩ := va_join (wr := (xw ad ci cz nx pv lo le wo di ba (nI cp) (nI tg) hi mi go)) (w1 := (mw am ci cz li ma wo di ba (nI cp) (nI tg) hi mi go)) hP hD [0, 1, 2, 3, 4, 5] [6, 7, 8, 9, 10, 11, 12, 13] rfl rfl (by decide) (by decide) hkq hFc hP1 hD1
  have hwm : r2 = q_at L (xs (i + 1)) (xs (i + 2)) := hwm
  generalize H1 = H at hP hS ⊢
  have hP : va_P (dC, dI) vwCl ((xw ad ci cz nx pv lo le wo di ba (nI cp) (nI tg) hi mi go) ++ (mw am ci cz li ma wo di ba (nI cp) (nI tg) hi mi go)) H := hP
  refine lv_icmp_eq (tgt := 365) hx hb dL_law_239 (by decide) (fun hc => ?_) (fun hc => ?_)
  · refine KN _ _ ls ⟨_, _, _, _, _, _, _, _, _, _, _, _, _, _, hI, hRx, hRm, hP, hD, hS⟩ (lv_sub hl [0, 1, 2, 3] rfl)
  · exact absurd (hwx.trans hwm.symm) hc
set_option maxHeartbeats 4000000 in
set_option maxRecDepth 100000 in
theorem q_case6 {p : Program} {l : Launch} {e : Env} {s : State} {m : MethodId} {below : List Frame} {meth : Method} {c : Code} {Q : State → Prop} {b N : Nat} {xs : Nat → Int32} {dC : Nat → ClassId} {dI : Nat → Nat → Nat} {ci cz : ClassId} {ad am : Nat → Nat} {cp i : Nat} (hN : N ≤ 193) (C0 : lw_At p s m meth c b N xs) (hi3 : i + 3 ≤ N) (hK : va_K (dC, dI) vwCl (q_ty ci cz) s) (KN : ∀ (H : Heap) (locs : List Loc) (ls : Array Slot), q_In dC dI ci cz ad am cp s H locs → lv_has ls 4 [(0, .ref b), (1, .ref (ad 0)), (2, .ref (am 0)), (3, .int (nI i))] → W p l e room_1 s m #[Value.ref b] below meth c H locs 14 938 Q (F0 m 365 ls [])) : ∀ (H : Heap) (locs : List Loc) (ls : Array Slot), q_In dC dI ci cz ad am cp s H locs → lv_has ls 4 [(0, .ref b), (1, .ref (ad 0)), (2, .ref (am 0)), (3, .int (nI i))] → W p l e room_1 s m #[Value.ref b] below meth c H locs 14 938 Q (F0 m 244 ls []) := by
  intro H locs ls hI9 hl
  obtain ⟨hx, hb, hr, hml, hown, hts0, hX, hbl, hlocks, hgv⟩ := C0
  have hts : ∀ w ∈ lw_all, w.before #[Value.ref b] s = true := fun w h => hts0 w (lw_all_tbl h)
  have hA : ∀ q : Nat, s.heap.size ≤ q → (fun q : Nat => s.heap.size ≤ q) q := fun _ h => h
  have hbA : ¬ (fun q : Nat => s.heap.size ≤ q) b := Nat.not_le.mpr hbl
  obtain ⟨L, tg, di, wo, ba, hi, mi, go, nx, pv, lo, le, li, ma, hI, hRx, hRm, hP, hD, hS⟩ := hI9
  refine lv_aload_n hx hb dL_law_244 rfl (lv_at hl 1 rfl) ?_
  refine lv_aload_n hx hb dL_law_245 rfl (lv_at hl 0 rfl) ?_
  refine lv_iload_n hx hb dL_law_246 rfl (lv_at hl 3 rfl) ?_
  refine lv_iconst (v := (nI 1)) hx hb dL_law_247 (by decide) ?_
  refine q_iadd hx hb dL_law_248 ?_
  refine va_sld hx hb hX hbl hbA hS (vp_in_nI (n := (i + 1)) (N := N) (by omega) (by omega)) dL_law_249 ?_
  refine q_top (y := xs (i + 1)) (by rw [nI_clamp (by omega)]) ?_
  have hPc := hP.sub (ws' := (xw ad ci cz nx pv lo le wo di ba (nI cp) (nI tg) hi mi go)) [0, 1, 2, 3, 4, 5, 6, 7] rfl
  have hDc := hD.sub (ws' := (xw ad ci cz nx pv lo le wo di ba (nI cp) (nI tg) hi mi go)) [0, 1, 2, 3, 4, 5, 6, 7] (by decide) rfl
  have hFc := va_free (wc := (xw ad ci cz nx pv lo le wo di ba (nI cp) (nI tg) hi mi go)) hD hS hA [0, 1, 2, 3, 4, 5, 6, 7] rfl
  refine va_calli (va_runV (As := [.int (xs (i + 1))]) (rest := []) ⟨hx, hb, hml, hown, hts⟩ (metX1_length l dC dI ci cz ad H.size nx pv lo le wo di ba (nI cp) (nI tg) hi mi go (v := xs (i + 1)) hRx) (cwV 1 hts (lw_V q124 q125 q126 q16 q127) rfl rfl rfl (by decide +kernel) ⟨Nat.le_of_ble_eq_true rfl, Nat.le_of_ble_eq_true rfl⟩) ⟨q_blind, va_recv hK hPc (ci := 0) (q0 := 0) rfl rfl, fun U hU hW => q_ent hPc hK hDc hU hW⟩ rfl rfl hl.1 rfl (lv_room (Nat.le_of_ble_eq_true rfl)) dL_law_250 ⟨Nat.le_of_ble_eq_true rfl, Nat.le_of_ble_eq_true rfl⟩) hS (fun q _ h => hFc q h) hFc (fun r1 u t H1 locs ht hvm hwx hB hzq hkq hS => ?_)
  obtain ⟨hP1, hK1, hD1⟩ := hB
  rw [ht] at hP1
  obtain ⟨hP, hD⟩ := va_join (wr := (mw am ci cz li ma wo di ba (nI cp) (nI tg) hi mi go)) (w1 := (xw ad ci cz nx pv lo le wo di ba (nI cp) (nI tg) hi mi go)) hP hD [0, 1, 2, 3, 4, 5, 6, 7] [8, 9, 10, 11, 12, 13] rfl rfl (by decide) (by decide) hkq hFc hP1 hD1
  have hwx : r1 = q_le L (xs (i + 1)) := hwx
  generalize H1 = H at hP hS ⊢
  have hP : va_P (dC, dI) vwCl ((mw am ci cz li ma wo di ba (nI cp) (nI tg) hi mi go) ++ (xw ad ci cz nx pv lo le wo di ba (nI cp) (nI tg) hi mi go)) H := hP
  refine lv_aload_n hx hb dL_law_253 rfl (lv_at hl 2 rfl) ?_
  refine lv_aload_n hx hb dL_law_254 rfl (lv_at hl 0 rfl) ?_
  refine lv_iload_n hx hb dL_law_255 rfl (lv_at hl 3 rfl) ?_
  refine lv_iconst (v := (nI 1)) hx hb dL_law_256 (by decide) ?_
  refine q_iadd hx hb dL_law_257 ?_
  refine va_sld hx hb hX hbl hbA hS (vp_in_nI (n := (i + 1)) (N := N) (by omega) (by omega)) dL_law_258 ?_
  refine q_top (y := xs (i + 1)) (by rw [nI_clamp (by omega)]) ?_
  have hPc := hP.sub (ws' := (mw am ci cz li ma wo di ba (nI cp) (nI tg) hi mi go)) [0, 1, 2, 3, 4, 5] rfl
  have hDc := hD.sub (ws' := (mw am ci cz li ma wo di ba (nI cp) (nI tg) hi mi go)) [0, 1, 2, 3, 4, 5] (by decide) rfl
  have hFc := va_free (wc := (mw am ci cz li ma wo di ba (nI cp) (nI tg) hi mi go)) hD hS hA [0, 1, 2, 3, 4, 5] rfl
  refine va_calli (va_runV (As := [.int (xs (i + 1))]) (rest := [.int r1]) ⟨hx, hb, hml, hown, hts⟩ (metX2_length l dC dI ci cz am H.size li ma wo di ba (nI cp) (nI tg) hi mi go (v := xs (i + 1)) hRm) (cwV 1 hts (lw_V q252 q253 q254 q17 q255) rfl rfl rfl (by decide +kernel) ⟨Nat.le_of_ble_eq_true rfl, Nat.le_of_ble_eq_true rfl⟩) ⟨q_blind, va_recv hK hPc (ci := 1) (q0 := 0) rfl rfl, fun U hU hW => q_ent hPc hK hDc hU hW⟩ rfl rfl hl.1 rfl (lv_room (Nat.le_of_ble_eq_true rfl)) dL_law_259 ⟨Nat.le_of_ble_eq_true rfl, Nat.le_of_ble_eq_true rfl⟩) hS (fun q _ h => hFc q h) hFc (fun r2 u t H1 locs ht hvm hwm hB hzq hkq hS => ?_)
  obtain ⟨hP1, hK1, hD1⟩ := hB
  rw [ht] at hP1
  obtain ⟨hP, hD⟩ := va_join (wr := (xw ad ci cz nx pv lo le wo di ba (nI cp) (nI tg) hi mi go)) (w1 := (mw am ci cz li ma wo di ba (nI cp) (nI tg) hi mi go)) hP hD [0, 1, 2, 3, 4, 5] [6, 7, 8, 9, 10, 11, 12, 13] rfl rfl (by decide) (by decide) hkq hFc hP1 hD1
  have hwm : r2 = q_le L (xs (i + 1)) := hwm
  generalize H1 = H at hP hS ⊢
  have hP : va_P (dC, dI) vwCl ((xw ad ci cz nx pv lo le wo di ba (nI cp) (nI tg) hi mi go) ++ (mw am ci cz li ma wo di ba (nI cp) (nI tg) hi mi go)) H := hP
  refine lv_icmp_eq (tgt := 365) hx hb dL_law_262 (by decide) (fun hc => ?_) (fun hc => ?_)
  · refine KN _ _ ls ⟨_, _, _, _, _, _, _, _, _, _, _, _, _, _, hI, hRx, hRm, hP, hD, hS⟩ (lv_sub hl [0, 1, 2, 3] rfl)
  · exact absurd (hwx.trans hwm.symm) hc
set_option maxHeartbeats 4000000 in
set_option maxRecDepth 100000 in
theorem q_case7 {p : Program} {l : Launch} {e : Env} {s : State} {m : MethodId} {below : List Frame} {meth : Method} {c : Code} {Q : State → Prop} {b N : Nat} {xs : Nat → Int32} {dC : Nat → ClassId} {dI : Nat → Nat → Nat} {ci cz : ClassId} {ad am : Nat → Nat} {cp i : Nat} (hN : N ≤ 193) (C0 : lw_At p s m meth c b N xs) (hi3 : i + 3 ≤ N) (hK : va_K (dC, dI) vwCl (q_ty ci cz) s) (KN : ∀ (H : Heap) (locs : List Loc) (ls : Array Slot), q_In dC dI ci cz ad am cp s H locs → lv_has ls 4 [(0, .ref b), (1, .ref (ad 0)), (2, .ref (am 0)), (3, .int (nI i))] → W p l e room_1 s m #[Value.ref b] below meth c H locs 14 938 Q (F0 m 365 ls [])) : ∀ (H : Heap) (locs : List Loc) (ls : Array Slot), q_In dC dI ci cz ad am cp s H locs → lv_has ls 4 [(0, .ref b), (1, .ref (ad 0)), (2, .ref (am 0)), (3, .int (nI i))] → W p l e room_1 s m #[Value.ref b] below meth c H locs 14 938 Q (F0 m 267 ls []) := by
  intro H locs ls hI9 hl
  obtain ⟨hx, hb, hr, hml, hown, hts0, hX, hbl, hlocks, hgv⟩ := C0
  have hts : ∀ w ∈ lw_all, w.before #[Value.ref b] s = true := fun w h => hts0 w (lw_all_tbl h)
  have hA : ∀ q : Nat, s.heap.size ≤ q → (fun q : Nat => s.heap.size ≤ q) q := fun _ h => h
  have hbA : ¬ (fun q : Nat => s.heap.size ≤ q) b := Nat.not_le.mpr hbl
  obtain ⟨L, tg, di, wo, ba, hi, mi, go, nx, pv, lo, le, li, ma, hI, hRx, hRm, hP, hD, hS⟩ := hI9
  refine lv_aload_n hx hb dL_law_267 rfl (lv_at hl 1 rfl) ?_
  have hPc := hP.sub (ws' := (xw ad ci cz nx pv lo le wo di ba (nI cp) (nI tg) hi mi go)) [0, 1, 2, 3, 4, 5, 6, 7] rfl
  have hDc := hD.sub (ws' := (xw ad ci cz nx pv lo le wo di ba (nI cp) (nI tg) hi mi go)) [0, 1, 2, 3, 4, 5, 6, 7] (by decide) rfl
  have hFc := va_free (wc := (xw ad ci cz nx pv lo le wo di ba (nI cp) (nI tg) hi mi go)) hD hS hA [0, 1, 2, 3, 4, 5, 6, 7] rfl
  refine va_calli (va_runV (As := []) (rest := []) ⟨hx, hb, hml, hown, hts⟩ (metX1_target l dC dI ci cz ad H.size nx pv lo le wo di ba (nI cp) (nI tg) hi mi go ) (cwV 0 hts (lw_V q128 q129 q130 q16 q131) rfl rfl rfl (by decide +kernel) ⟨Nat.le_of_ble_eq_true rfl, Nat.le_of_ble_eq_true rfl⟩) ⟨q_blind, va_recv hK hPc (ci := 0) (q0 := 0) rfl rfl, fun U hU hW => q_ent hPc hK hDc hU hW⟩ rfl rfl hl.1 rfl (lv_room (Nat.le_of_ble_eq_true rfl)) dL_law_268 ⟨Nat.le_of_ble_eq_true rfl, Nat.le_of_ble_eq_true rfl⟩) hS (fun q _ h => hFc q h) hFc (fun r1 u t H1 locs ht hvm hwx hB hzq hkq hS => ?_)
  obtain ⟨hP1, hK1, hD1⟩ := hB
  rw [ht] at hP1
  obtain ⟨hP, hD⟩ := va_join (wr := (mw am ci cz li ma wo di ba (nI cp) (nI tg) hi mi go)) (w1 := (xw ad ci cz nx pv lo le wo di ba (nI cp) (nI tg) hi mi go)) hP hD [0, 1, 2, 3, 4, 5, 6, 7] [8, 9, 10, 11, 12, 13] rfl rfl (by decide) (by decide) hkq hFc hP1 hD1
  have hwx : r1 = nI tg := hwx
  generalize H1 = H at hP hS ⊢
  have hP : va_P (dC, dI) vwCl ((mw am ci cz li ma wo di ba (nI cp) (nI tg) hi mi go) ++ (xw ad ci cz nx pv lo le wo di ba (nI cp) (nI tg) hi mi go)) H := hP
  refine lv_aload_n hx hb dL_law_271 rfl (lv_at hl 2 rfl) ?_
  have hPc := hP.sub (ws' := (mw am ci cz li ma wo di ba (nI cp) (nI tg) hi mi go)) [0, 1, 2, 3, 4, 5] rfl
  have hDc := hD.sub (ws' := (mw am ci cz li ma wo di ba (nI cp) (nI tg) hi mi go)) [0, 1, 2, 3, 4, 5] (by decide) rfl
  have hFc := va_free (wc := (mw am ci cz li ma wo di ba (nI cp) (nI tg) hi mi go)) hD hS hA [0, 1, 2, 3, 4, 5] rfl
  refine va_calli (va_runV (As := []) (rest := [.int r1]) ⟨hx, hb, hml, hown, hts⟩ (metX2_target l dC dI ci cz am H.size li ma wo di ba (nI cp) (nI tg) hi mi go ) (cwV 0 hts (lw_V q256 q257 q258 q17 q259) rfl rfl rfl (by decide +kernel) ⟨Nat.le_of_ble_eq_true rfl, Nat.le_of_ble_eq_true rfl⟩) ⟨q_blind, va_recv hK hPc (ci := 1) (q0 := 0) rfl rfl, fun U hU hW => q_ent hPc hK hDc hU hW⟩ rfl rfl hl.1 rfl (lv_room (Nat.le_of_ble_eq_true rfl)) dL_law_272 ⟨Nat.le_of_ble_eq_true rfl, Nat.le_of_ble_eq_true rfl⟩) hS (fun q _ h => hFc q h) hFc (fun r2 u t H1 locs ht hvm hwm hB hzq hkq hS => ?_)
  obtain ⟨hP1, hK1, hD1⟩ := hB
  rw [ht] at hP1
  obtain ⟨hP, hD⟩ := va_join (wr := (xw ad ci cz nx pv lo le wo di ba (nI cp) (nI tg) hi mi go)) (w1 := (mw am ci cz li ma wo di ba (nI cp) (nI tg) hi mi go)) hP hD [0, 1, 2, 3, 4, 5] [6, 7, 8, 9, 10, 11, 12, 13] rfl rfl (by decide) (by decide) hkq hFc hP1 hD1
  have hwm : r2 = nI tg := hwm
  generalize H1 = H at hP hS ⊢
  have hP : va_P (dC, dI) vwCl ((xw ad ci cz nx pv lo le wo di ba (nI cp) (nI tg) hi mi go) ++ (mw am ci cz li ma wo di ba (nI cp) (nI tg) hi mi go)) H := hP
  refine lv_icmp_eq (tgt := 365) hx hb dL_law_275 (by decide) (fun hc => ?_) (fun hc => ?_)
  · refine KN _ _ ls ⟨_, _, _, _, _, _, _, _, _, _, _, _, _, _, hI, hRx, hRm, hP, hD, hS⟩ (lv_sub hl [0, 1, 2, 3] rfl)
  · exact absurd (hwx.trans hwm.symm) hc
set_option maxHeartbeats 4000000 in
set_option maxRecDepth 100000 in
theorem q_case8 {p : Program} {l : Launch} {e : Env} {s : State} {m : MethodId} {below : List Frame} {meth : Method} {c : Code} {Q : State → Prop} {b N : Nat} {xs : Nat → Int32} {dC : Nat → ClassId} {dI : Nat → Nat → Nat} {ci cz : ClassId} {ad am : Nat → Nat} {cp i : Nat} (hN : N ≤ 193) (C0 : lw_At p s m meth c b N xs) (hi3 : i + 3 ≤ N) (hK : va_K (dC, dI) vwCl (q_ty ci cz) s) (KN : ∀ (H : Heap) (locs : List Loc) (ls : Array Slot), q_In dC dI ci cz ad am cp s H locs → lv_has ls 4 [(0, .ref b), (1, .ref (ad 0)), (2, .ref (am 0)), (3, .int (nI i))] → W p l e room_1 s m #[Value.ref b] below meth c H locs 14 938 Q (F0 m 365 ls [])) : ∀ (H : Heap) (locs : List Loc) (ls : Array Slot), q_In dC dI ci cz ad am cp s H locs → lv_has ls 4 [(0, .ref b), (1, .ref (ad 0)), (2, .ref (am 0)), (3, .int (nI i))] → W p l e room_1 s m #[Value.ref b] below meth c H locs 14 938 Q (F0 m 280 ls []) := by
  intro H locs ls hI9 hl
  obtain ⟨hx, hb, hr, hml, hown, hts0, hX, hbl, hlocks, hgv⟩ := C0
  have hts : ∀ w ∈ lw_all, w.before #[Value.ref b] s = true := fun w h => hts0 w (lw_all_tbl h)
  have hA : ∀ q : Nat, s.heap.size ≤ q → (fun q : Nat => s.heap.size ≤ q) q := fun _ h => h
  have hbA : ¬ (fun q : Nat => s.heap.size ≤ q) b := Nat.not_le.mpr hbl
  obtain ⟨L, tg, di, wo, ba, hi, mi, go, nx, pv, lo, le, li, ma, hI, hRx, hRm, hP, hD, hS⟩ := hI9
  refine lv_aload_n hx hb dL_law_280 rfl (lv_at hl 1 rfl) ?_
  have hPc := hP.sub (ws' := (xw ad ci cz nx pv lo le wo di ba (nI cp) (nI tg) hi mi go)) [0, 1, 2, 3, 4, 5, 6, 7] rfl
  have hDc := hD.sub (ws' := (xw ad ci cz nx pv lo le wo di ba (nI cp) (nI tg) hi mi go)) [0, 1, 2, 3, 4, 5, 6, 7] (by decide) rfl
  have hFc := va_free (wc := (xw ad ci cz nx pv lo le wo di ba (nI cp) (nI tg) hi mi go)) hD hS hA [0, 1, 2, 3, 4, 5, 6, 7] rfl
  refine va_calli (va_runV (As := []) (rest := []) ⟨hx, hb, hml, hown, hts⟩ (metX1_hits l dC dI ci cz ad H.size nx pv lo le wo di ba (nI cp) (nI tg) hi mi go ) (cwV 0 hts (lw_V q132 q133 q134 q16 q135) rfl rfl rfl (by decide +kernel) ⟨Nat.le_of_ble_eq_true rfl, Nat.le_of_ble_eq_true rfl⟩) ⟨q_blind, va_recv hK hPc (ci := 0) (q0 := 0) rfl rfl, fun U hU hW => q_ent hPc hK hDc hU hW⟩ rfl rfl hl.1 rfl (lv_room (Nat.le_of_ble_eq_true rfl)) dL_law_281 ⟨Nat.le_of_ble_eq_true rfl, Nat.le_of_ble_eq_true rfl⟩) hS (fun q _ h => hFc q h) hFc (fun r1 u t H1 locs ht hvm hwx hB hzq hkq hS => ?_)
  obtain ⟨hP1, hK1, hD1⟩ := hB
  rw [ht] at hP1
  obtain ⟨hP, hD⟩ := va_join (wr := (mw am ci cz li ma wo di ba (nI cp) (nI tg) hi mi go)) (w1 := (xw ad ci cz nx pv lo le wo di ba (nI cp) (nI tg) hi mi go)) hP hD [0, 1, 2, 3, 4, 5, 6, 7] [8, 9, 10, 11, 12, 13] rfl rfl (by decide) (by decide) hkq hFc hP1 hD1
  have hwx : r1 = hi := hwx
  generalize H1 = H at hP hS ⊢
  have hP : va_P (dC, dI) vwCl ((mw am ci cz li ma wo di ba (nI cp) (nI tg) hi mi go) ++ (xw ad ci cz nx pv lo le wo di ba (nI cp) (nI tg) hi mi go)) H := hP
  refine lv_aload_n hx hb dL_law_284 rfl (lv_at hl 2 rfl) ?_
  have hPc := hP.sub (ws' := (mw am ci cz li ma wo di ba (nI cp) (nI tg) hi mi go)) [0, 1, 2, 3, 4, 5] rfl
  have hDc := hD.sub (ws' := (mw am ci cz li ma wo di ba (nI cp) (nI tg) hi mi go)) [0, 1, 2, 3, 4, 5] (by decide) rfl
  have hFc := va_free (wc := (mw am ci cz li ma wo di ba (nI cp) (nI tg) hi mi go)) hD hS hA [0, 1, 2, 3, 4, 5] rfl
  refine va_calli (va_runV (As := []) (rest := [.int r1]) ⟨hx, hb, hml, hown, hts⟩ (metX2_hits l dC dI ci cz am H.size li ma wo di ba (nI cp) (nI tg) hi mi go ) (cwV 0 hts (lw_V q260 q261 q262 q17 q263) rfl rfl rfl (by decide +kernel) ⟨Nat.le_of_ble_eq_true rfl, Nat.le_of_ble_eq_true rfl⟩) ⟨q_blind, va_recv hK hPc (ci := 1) (q0 := 0) rfl rfl, fun U hU hW => q_ent hPc hK hDc hU hW⟩ rfl rfl hl.1 rfl (lv_room (Nat.le_of_ble_eq_true rfl)) dL_law_285 ⟨Nat.le_of_ble_eq_true rfl, Nat.le_of_ble_eq_true rfl⟩) hS (fun q _ h => hFc q h) hFc (fun r2 u t H1 locs ht hvm hwm hB hzq hkq hS => ?_)
  obtain ⟨hP1, hK1, hD1⟩ := hB
  rw [ht] at hP1
  obtain ⟨hP, hD⟩ := va_join (wr := (xw ad ci cz nx pv lo le wo di ba (nI cp) (nI tg) hi mi go)) (w1 := (mw am ci cz li ma wo di ba (nI cp) (nI tg) hi mi go)) hP hD [0, 1, 2, 3, 4, 5] [6, 7, 8, 9, 10, 11, 12, 13] rfl rfl (by decide) (by decide) hkq hFc hP1 hD1
  have hwm : r2 = hi := hwm
  generalize H1 = H at hP hS ⊢
  have hP : va_P (dC, dI) vwCl ((xw ad ci cz nx pv lo le wo di ba (nI cp) (nI tg) hi mi go) ++ (mw am ci cz li ma wo di ba (nI cp) (nI tg) hi mi go)) H := hP
  refine lv_icmp_eq (tgt := 365) hx hb dL_law_288 (by decide) (fun hc => ?_) (fun hc => ?_)
  · refine KN _ _ ls ⟨_, _, _, _, _, _, _, _, _, _, _, _, _, _, hI, hRx, hRm, hP, hD, hS⟩ (lv_sub hl [0, 1, 2, 3] rfl)
  · exact absurd (hwx.trans hwm.symm) hc
set_option maxHeartbeats 4000000 in
set_option maxRecDepth 100000 in
theorem q_case9 {p : Program} {l : Launch} {e : Env} {s : State} {m : MethodId} {below : List Frame} {meth : Method} {c : Code} {Q : State → Prop} {b N : Nat} {xs : Nat → Int32} {dC : Nat → ClassId} {dI : Nat → Nat → Nat} {ci cz : ClassId} {ad am : Nat → Nat} {cp i : Nat} (hN : N ≤ 193) (C0 : lw_At p s m meth c b N xs) (hi3 : i + 3 ≤ N) (hK : va_K (dC, dI) vwCl (q_ty ci cz) s) (KN : ∀ (H : Heap) (locs : List Loc) (ls : Array Slot), q_In dC dI ci cz ad am cp s H locs → lv_has ls 4 [(0, .ref b), (1, .ref (ad 0)), (2, .ref (am 0)), (3, .int (nI i))] → W p l e room_1 s m #[Value.ref b] below meth c H locs 14 938 Q (F0 m 365 ls [])) : ∀ (H : Heap) (locs : List Loc) (ls : Array Slot), q_In dC dI ci cz ad am cp s H locs → lv_has ls 4 [(0, .ref b), (1, .ref (ad 0)), (2, .ref (am 0)), (3, .int (nI i))] → W p l e room_1 s m #[Value.ref b] below meth c H locs 14 938 Q (F0 m 293 ls []) := by
  intro H locs ls hI9 hl
  obtain ⟨hx, hb, hr, hml, hown, hts0, hX, hbl, hlocks, hgv⟩ := C0
  have hts : ∀ w ∈ lw_all, w.before #[Value.ref b] s = true := fun w h => hts0 w (lw_all_tbl h)
  have hA : ∀ q : Nat, s.heap.size ≤ q → (fun q : Nat => s.heap.size ≤ q) q := fun _ h => h
  have hbA : ¬ (fun q : Nat => s.heap.size ≤ q) b := Nat.not_le.mpr hbl
  obtain ⟨L, tg, di, wo, ba, hi, mi, go, nx, pv, lo, le, li, ma, hI, hRx, hRm, hP, hD, hS⟩ := hI9
  refine lv_aload_n hx hb dL_law_293 rfl (lv_at hl 1 rfl) ?_
  have hPc := hP.sub (ws' := (xw ad ci cz nx pv lo le wo di ba (nI cp) (nI tg) hi mi go)) [0, 1, 2, 3, 4, 5, 6, 7] rfl
  have hDc := hD.sub (ws' := (xw ad ci cz nx pv lo le wo di ba (nI cp) (nI tg) hi mi go)) [0, 1, 2, 3, 4, 5, 6, 7] (by decide) rfl
  have hFc := va_free (wc := (xw ad ci cz nx pv lo le wo di ba (nI cp) (nI tg) hi mi go)) hD hS hA [0, 1, 2, 3, 4, 5, 6, 7] rfl
  refine va_calli (va_runV (As := []) (rest := []) ⟨hx, hb, hml, hown, hts⟩ (metX1_misses l dC dI ci cz ad H.size nx pv lo le wo di ba (nI cp) (nI tg) hi mi go ) (cwV 0 hts (lw_V q136 q137 q138 q16 q139) rfl rfl rfl (by decide +kernel) ⟨Nat.le_of_ble_eq_true rfl, Nat.le_of_ble_eq_true rfl⟩) ⟨q_blind, va_recv hK hPc (ci := 0) (q0 := 0) rfl rfl, fun U hU hW => q_ent hPc hK hDc hU hW⟩ rfl rfl hl.1 rfl (lv_room (Nat.le_of_ble_eq_true rfl)) dL_law_294 ⟨Nat.le_of_ble_eq_true rfl, Nat.le_of_ble_eq_true rfl⟩) hS (fun q _ h => hFc q h) hFc (fun r1 u t H1 locs ht hvm hwx hB hzq hkq hS => ?_)
  obtain ⟨hP1, hK1, hD1⟩ := hB
  rw [ht] at hP1
  obtain ⟨hP, hD⟩ := va_join (wr := (mw am ci cz li ma wo di ba (nI cp) (nI tg) hi mi go)) (w1 := (xw ad ci cz nx pv lo le wo di ba (nI cp) (nI tg) hi mi go)) hP hD [0, 1, 2, 3, 4, 5, 6, 7] [8, 9, 10, 11, 12, 13] rfl rfl (by decide) (by decide) hkq hFc hP1 hD1
  have hwx : r1 = mi := hwx
  generalize H1 = H at hP hS ⊢
  have hP : va_P (dC, dI) vwCl ((mw am ci cz li ma wo di ba (nI cp) (nI tg) hi mi go) ++ (xw ad ci cz nx pv lo le wo di ba (nI cp) (nI tg) hi mi go)) H := hP
  refine lv_aload_n hx hb dL_law_297 rfl (lv_at hl 2 rfl) ?_
  have hPc := hP.sub (ws' := (mw am ci cz li ma wo di ba (nI cp) (nI tg) hi mi go)) [0, 1, 2, 3, 4, 5] rfl
  have hDc := hD.sub (ws' := (mw am ci cz li ma wo di ba (nI cp) (nI tg) hi mi go)) [0, 1, 2, 3, 4, 5] (by decide) rfl
  have hFc := va_free (wc := (mw am ci cz li ma wo di ba (nI cp) (nI tg) hi mi go)) hD hS hA [0, 1, 2, 3, 4, 5] rfl
  refine va_calli (va_runV (As := []) (rest := [.int r1]) ⟨hx, hb, hml, hown, hts⟩ (metX2_misses l dC dI ci cz am H.size li ma wo di ba (nI cp) (nI tg) hi mi go ) (cwV 0 hts (lw_V q264 q265 q266 q17 q267) rfl rfl rfl (by decide +kernel) ⟨Nat.le_of_ble_eq_true rfl, Nat.le_of_ble_eq_true rfl⟩) ⟨q_blind, va_recv hK hPc (ci := 1) (q0 := 0) rfl rfl, fun U hU hW => q_ent hPc hK hDc hU hW⟩ rfl rfl hl.1 rfl (lv_room (Nat.le_of_ble_eq_true rfl)) dL_law_298 ⟨Nat.le_of_ble_eq_true rfl, Nat.le_of_ble_eq_true rfl⟩) hS (fun q _ h => hFc q h) hFc (fun r2 u t H1 locs ht hvm hwm hB hzq hkq hS => ?_)
  obtain ⟨hP1, hK1, hD1⟩ := hB
  rw [ht] at hP1
  obtain ⟨hP, hD⟩ := va_join (wr := (xw ad ci cz nx pv lo le wo di ba (nI cp) (nI tg) hi mi go)) (w1 := (mw am ci cz li ma wo di ba (nI cp) (nI tg) hi mi go)) hP hD [0, 1, 2, 3, 4, 5] [6, 7, 8, 9, 10, 11, 12, 13] rfl rfl (by decide) (by decide) hkq hFc hP1 hD1
  have hwm : r2 = mi := hwm
  generalize H1 = H at hP hS ⊢
  have hP : va_P (dC, dI) vwCl ((xw ad ci cz nx pv lo le wo di ba (nI cp) (nI tg) hi mi go) ++ (mw am ci cz li ma wo di ba (nI cp) (nI tg) hi mi go)) H := hP
  refine lv_icmp_eq (tgt := 365) hx hb dL_law_301 (by decide) (fun hc => ?_) (fun hc => ?_)
  · refine KN _ _ ls ⟨_, _, _, _, _, _, _, _, _, _, _, _, _, _, hI, hRx, hRm, hP, hD, hS⟩ (lv_sub hl [0, 1, 2, 3] rfl)
  · exact absurd (hwx.trans hwm.symm) hc
set_option maxHeartbeats 4000000 in
set_option maxRecDepth 100000 in
theorem q_case10 {p : Program} {l : Launch} {e : Env} {s : State} {m : MethodId} {below : List Frame} {meth : Method} {c : Code} {Q : State → Prop} {b N : Nat} {xs : Nat → Int32} {dC : Nat → ClassId} {dI : Nat → Nat → Nat} {ci cz : ClassId} {ad am : Nat → Nat} {cp i : Nat} (hN : N ≤ 193) (C0 : lw_At p s m meth c b N xs) (hi3 : i + 3 ≤ N) (hK : va_K (dC, dI) vwCl (q_ty ci cz) s) (KN : ∀ (H : Heap) (locs : List Loc) (ls : Array Slot), q_In dC dI ci cz ad am cp s H locs → lv_has ls 4 [(0, .ref b), (1, .ref (ad 0)), (2, .ref (am 0)), (3, .int (nI i))] → W p l e room_1 s m #[Value.ref b] below meth c H locs 14 938 Q (F0 m 365 ls [])) : ∀ (H : Heap) (locs : List Loc) (ls : Array Slot), q_In dC dI ci cz ad am cp s H locs → lv_has ls 4 [(0, .ref b), (1, .ref (ad 0)), (2, .ref (am 0)), (3, .int (nI i))] → W p l e room_1 s m #[Value.ref b] below meth c H locs 14 938 Q (F0 m 306 ls []) := by
  intro H locs ls hI9 hl
  obtain ⟨hx, hb, hr, hml, hown, hts0, hX, hbl, hlocks, hgv⟩ := C0
  have hts : ∀ w ∈ lw_all, w.before #[Value.ref b] s = true := fun w h => hts0 w (lw_all_tbl h)
  have hA : ∀ q : Nat, s.heap.size ≤ q → (fun q : Nat => s.heap.size ≤ q) q := fun _ h => h
  have hbA : ¬ (fun q : Nat => s.heap.size ≤ q) b := Nat.not_le.mpr hbl
  obtain ⟨L, tg, di, wo, ba, hi, mi, go, nx, pv, lo, le, li, ma, hI, hRx, hRm, hP, hD, hS⟩ := hI9
  refine lv_aload_n hx hb dL_law_306 rfl (lv_at hl 1 rfl) ?_
  refine lv_aload_n hx hb dL_law_307 rfl (lv_at hl 0 rfl) ?_
  refine lv_iload_n hx hb dL_law_308 rfl (lv_at hl 3 rfl) ?_
  refine lv_iconst (v := (nI 1)) hx hb dL_law_309 (by decide) ?_
  refine q_iadd hx hb dL_law_310 ?_
  refine va_sld hx hb hX hbl hbA hS (vp_in_nI (n := (i + 1)) (N := N) (by omega) (by omega)) dL_law_311 ?_
  refine q_top (y := xs (i + 1)) (by rw [nI_clamp (by omega)]) ?_
  have hPc := hP.sub (ws' := (xw ad ci cz nx pv lo le wo di ba (nI cp) (nI tg) hi mi go)) [0, 1, 2, 3, 4, 5, 6, 7] rfl
  have hDc := hD.sub (ws' := (xw ad ci cz nx pv lo le wo di ba (nI cp) (nI tg) hi mi go)) [0, 1, 2, 3, 4, 5, 6, 7] (by decide) rfl
  have hFc := va_free (wc := (xw ad ci cz nx pv lo le wo di ba (nI cp) (nI tg) hi mi go)) hD hS hA [0, 1, 2, 3, 4, 5, 6, 7] rfl
  refine va_calli (va_runV (As := [.int (xs (i + 1))]) (rest := []) ⟨hx, hb, hml, hown, hts⟩ (metX1_store l dC dI ci cz ad H.size nx pv lo le wo di ba (nI cp) (nI tg) hi mi go (v := xs (i + 1))) (cwV 1 hts (lw_V q140 q141 q142 q16 q143) rfl rfl rfl (by decide +kernel) ⟨Nat.le_of_ble_eq_true rfl, Nat.le_of_ble_eq_true rfl⟩) ⟨q_blind, va_recv hK hPc (ci := 0) (q0 := 0) rfl rfl, fun U hU hW => q_ent hPc hK hDc hU hW⟩ rfl rfl hl.1 rfl (lv_room (Nat.le_of_ble_eq_true rfl)) dL_law_312 ⟨Nat.le_of_ble_eq_true rfl, Nat.le_of_ble_eq_true rfl⟩) hS (fun q _ h => hFc q h) hFc (fun r1 u t H1 locs ht hvm hwx hB hzq hkq hS => ?_)
  obtain ⟨hP1, hK1, hD1⟩ := hB
  rw [ht] at hP1
  obtain ⟨hP, hD⟩ := va_join (wr := (mw am ci cz li ma wo di ba (nI cp) (nI tg) hi mi go)) (w1 := (xw ad ci cz nx pv lo le wo di ba (nI cp) (nI tg) hi mi go)) hP hD [0, 1, 2, 3, 4, 5, 6, 7] [8, 9, 10, 11, 12, 13] rfl rfl (by decide) (by decide) hkq hFc hP1 hD1
  have hwx : r1 = q_so ba (xs (i + 1)) := hwx
  generalize H1 = H at hP hS ⊢
  have hP : va_P (dC, dI) vwCl ((mw am ci cz li ma wo di ba (nI cp) (nI tg) hi mi go) ++ (xw ad ci cz nx pv lo le wo di ba (nI cp) (nI tg) hi mi go)) H := hP
  refine lv_aload_n hx hb dL_law_315 rfl (lv_at hl 2 rfl) ?_
  refine lv_aload_n hx hb dL_law_316 rfl (lv_at hl 0 rfl) ?_
  refine lv_iload_n hx hb dL_law_317 rfl (lv_at hl 3 rfl) ?_
  refine lv_iconst (v := (nI 1)) hx hb dL_law_318 (by decide) ?_
  refine q_iadd hx hb dL_law_319 ?_
  refine va_sld hx hb hX hbl hbA hS (vp_in_nI (n := (i + 1)) (N := N) (by omega) (by omega)) dL_law_320 ?_
  refine q_top (y := xs (i + 1)) (by rw [nI_clamp (by omega)]) ?_
  have hPc := hP.sub (ws' := (mw am ci cz li ma wo di ba (nI cp) (nI tg) hi mi go)) [0, 1, 2, 3, 4, 5] rfl
  have hDc := hD.sub (ws' := (mw am ci cz li ma wo di ba (nI cp) (nI tg) hi mi go)) [0, 1, 2, 3, 4, 5] (by decide) rfl
  have hFc := va_free (wc := (mw am ci cz li ma wo di ba (nI cp) (nI tg) hi mi go)) hD hS hA [0, 1, 2, 3, 4, 5] rfl
  refine va_calli (va_runV (As := [.int (xs (i + 1))]) (rest := [.int r1]) ⟨hx, hb, hml, hown, hts⟩ (metX2_store l dC dI ci cz am H.size li ma wo di ba (nI cp) (nI tg) hi mi go (v := xs (i + 1))) (cwV 1 hts (lw_V q268 q269 q270 q17 q271) rfl rfl rfl (by decide +kernel) ⟨Nat.le_of_ble_eq_true rfl, Nat.le_of_ble_eq_true rfl⟩) ⟨q_blind, va_recv hK hPc (ci := 1) (q0 := 0) rfl rfl, fun U hU hW => q_ent hPc hK hDc hU hW⟩ rfl rfl hl.1 rfl (lv_room (Nat.le_of_ble_eq_true rfl)) dL_law_321 ⟨Nat.le_of_ble_eq_true rfl, Nat.le_of_ble_eq_true rfl⟩) hS (fun q _ h => hFc q h) hFc (fun r2 u t H1 locs ht hvm hwm hB hzq hkq hS => ?_)
  obtain ⟨hP1, hK1, hD1⟩ := hB
  rw [ht] at hP1
  obtain ⟨hP, hD⟩ := va_join (wr := (xw ad ci cz nx pv lo le wo di ba (nI cp) (nI tg) hi mi go)) (w1 := (mw am ci cz li ma wo di ba (nI cp) (nI tg) hi mi go)) hP hD [0, 1, 2, 3, 4, 5] [6, 7, 8, 9, 10, 11, 12, 13] rfl rfl (by decide) (by decide) hkq hFc hP1 hD1
  have hwm : r2 = q_so ba (xs (i + 1)) := hwm
  generalize H1 = H at hP hS ⊢
  have hP : va_P (dC, dI) vwCl ((xw ad ci cz nx pv lo le wo di ba (nI cp) (nI tg) hi mi go) ++ (mw am ci cz li ma wo di ba (nI cp) (nI tg) hi mi go)) H := hP
  refine lv_icmp_eq (tgt := 365) hx hb dL_law_324 (by decide) (fun hc => ?_) (fun hc => ?_)
  · refine KN _ _ ls ⟨_, _, _, _, _, _, _, _, _, _, _, _, _, _, hI, hRx, hRm, hP, hD, hS⟩ (lv_sub hl [0, 1, 2, 3] rfl)
  · exact absurd (hwx.trans hwm.symm) hc
set_option maxHeartbeats 4000000 in
set_option maxRecDepth 100000 in
theorem q_case11 {p : Program} {l : Launch} {e : Env} {s : State} {m : MethodId} {below : List Frame} {meth : Method} {c : Code} {Q : State → Prop} {b N : Nat} {xs : Nat → Int32} {dC : Nat → ClassId} {dI : Nat → Nat → Nat} {ci cz : ClassId} {ad am : Nat → Nat} {cp i : Nat} (hN : N ≤ 193) (C0 : lw_At p s m meth c b N xs) (hi3 : i + 3 ≤ N) (hK : va_K (dC, dI) vwCl (q_ty ci cz) s) (KN : ∀ (H : Heap) (locs : List Loc) (ls : Array Slot), q_In dC dI ci cz ad am cp s H locs → lv_has ls 4 [(0, .ref b), (1, .ref (ad 0)), (2, .ref (am 0)), (3, .int (nI i))] → W p l e room_1 s m #[Value.ref b] below meth c H locs 14 938 Q (F0 m 365 ls [])) : ∀ (H : Heap) (locs : List Loc) (ls : Array Slot), q_In dC dI ci cz ad am cp s H locs → lv_has ls 4 [(0, .ref b), (1, .ref (ad 0)), (2, .ref (am 0)), (3, .int (nI i))] → W p l e room_1 s m #[Value.ref b] below meth c H locs 14 938 Q (F0 m 329 ls []) := by
  intro H locs ls hI9 hl
  obtain ⟨hx, hb, hr, hml, hown, hts0, hX, hbl, hlocks, hgv⟩ := C0
  have hts : ∀ w ∈ lw_all, w.before #[Value.ref b] s = true := fun w h => hts0 w (lw_all_tbl h)
  have hA : ∀ q : Nat, s.heap.size ≤ q → (fun q : Nat => s.heap.size ≤ q) q := fun _ h => h
  have hbA : ¬ (fun q : Nat => s.heap.size ≤ q) b := Nat.not_le.mpr hbl
  obtain ⟨L, tg, di, wo, ba, hi, mi, go, nx, pv, lo, le, li, ma, hI, hRx, hRm, hP, hD, hS⟩ := hI9
  refine lv_aload_n hx hb dL_law_329 rfl (lv_at hl 1 rfl) ?_
  refine lv_aload_n hx hb dL_law_330 rfl (lv_at hl 0 rfl) ?_
  refine lv_iload_n hx hb dL_law_331 rfl (lv_at hl 3 rfl) ?_
  refine lv_iconst (v := (nI 1)) hx hb dL_law_332 (by decide) ?_
  refine q_iadd hx hb dL_law_333 ?_
  refine va_sld hx hb hX hbl hbA hS (vp_in_nI (n := (i + 1)) (N := N) (by omega) (by omega)) dL_law_334 ?_
  refine q_top (y := xs (i + 1)) (by rw [nI_clamp (by omega)]) ?_
  have hPc := hP.sub (ws' := (xw ad ci cz nx pv lo le wo di ba (nI cp) (nI tg) hi mi go)) [0, 1, 2, 3, 4, 5, 6, 7] rfl
  have hDc := hD.sub (ws' := (xw ad ci cz nx pv lo le wo di ba (nI cp) (nI tg) hi mi go)) [0, 1, 2, 3, 4, 5, 6, 7] (by decide) rfl
  have hFc := va_free (wc := (xw ad ci cz nx pv lo le wo di ba (nI cp) (nI tg) hi mi go)) hD hS hA [0, 1, 2, 3, 4, 5, 6, 7] rfl
  refine va_calli (va_runV (As := [.int (xs (i + 1))]) (rest := []) ⟨hx, hb, hml, hown, hts⟩ (metX1_isDirty l dC dI ci cz ad H.size nx pv lo le wo di ba (nI cp) (nI tg) hi mi go (v := xs (i + 1))) (cwV 1 hts (lw_V q144 q145 q146 q16 q147) rfl rfl rfl (by decide +kernel) ⟨Nat.le_of_ble_eq_true rfl, Nat.le_of_ble_eq_true rfl⟩) ⟨q_blind, va_recv hK hPc (ci := 0) (q0 := 0) rfl rfl, fun U hU hW => q_ent hPc hK hDc hU hW⟩ rfl rfl hl.1 rfl (lv_room (Nat.le_of_ble_eq_true rfl)) dL_law_335 ⟨Nat.le_of_ble_eq_true rfl, Nat.le_of_ble_eq_true rfl⟩) hS (fun q _ h => hFc q h) hFc (fun r1 u t H1 locs ht hvm hwx hB hzq hkq hS => ?_)
  obtain ⟨hP1, hK1, hD1⟩ := hB
  rw [ht] at hP1
  obtain ⟨hP, hD⟩ := va_join (wr := (mw am ci cz li ma wo di ba (nI cp) (nI tg) hi mi go)) (w1 := (xw ad ci cz nx pv lo le wo di ba (nI cp) (nI tg) hi mi go)) hP hD [0, 1, 2, 3, 4, 5, 6, 7] [8, 9, 10, 11, 12, 13] rfl rfl (by decide) (by decide) hkq hFc hP1 hD1
  have hwx : r1 = q_so (q_b01 di) (xs (i + 1)) := hwx
  generalize H1 = H at hP hS ⊢
  have hP : va_P (dC, dI) vwCl ((mw am ci cz li ma wo di ba (nI cp) (nI tg) hi mi go) ++ (xw ad ci cz nx pv lo le wo di ba (nI cp) (nI tg) hi mi go)) H := hP
  refine lv_aload_n hx hb dL_law_338 rfl (lv_at hl 2 rfl) ?_
  refine lv_aload_n hx hb dL_law_339 rfl (lv_at hl 0 rfl) ?_
  refine lv_iload_n hx hb dL_law_340 rfl (lv_at hl 3 rfl) ?_
  refine lv_iconst (v := (nI 1)) hx hb dL_law_341 (by decide) ?_
  refine q_iadd hx hb dL_law_342 ?_
  refine va_sld hx hb hX hbl hbA hS (vp_in_nI (n := (i + 1)) (N := N) (by omega) (by omega)) dL_law_343 ?_
  refine q_top (y := xs (i + 1)) (by rw [nI_clamp (by omega)]) ?_
  have hPc := hP.sub (ws' := (mw am ci cz li ma wo di ba (nI cp) (nI tg) hi mi go)) [0, 1, 2, 3, 4, 5] rfl
  have hDc := hD.sub (ws' := (mw am ci cz li ma wo di ba (nI cp) (nI tg) hi mi go)) [0, 1, 2, 3, 4, 5] (by decide) rfl
  have hFc := va_free (wc := (mw am ci cz li ma wo di ba (nI cp) (nI tg) hi mi go)) hD hS hA [0, 1, 2, 3, 4, 5] rfl
  refine va_calli (va_runV (As := [.int (xs (i + 1))]) (rest := [.int r1]) ⟨hx, hb, hml, hown, hts⟩ (metX2_isDirty l dC dI ci cz am H.size li ma wo di ba (nI cp) (nI tg) hi mi go (v := xs (i + 1))) (cwV 1 hts (lw_V q272 q273 q274 q17 q275) rfl rfl rfl (by decide +kernel) ⟨Nat.le_of_ble_eq_true rfl, Nat.le_of_ble_eq_true rfl⟩) ⟨q_blind, va_recv hK hPc (ci := 1) (q0 := 0) rfl rfl, fun U hU hW => q_ent hPc hK hDc hU hW⟩ rfl rfl hl.1 rfl (lv_room (Nat.le_of_ble_eq_true rfl)) dL_law_344 ⟨Nat.le_of_ble_eq_true rfl, Nat.le_of_ble_eq_true rfl⟩) hS (fun q _ h => hFc q h) hFc (fun r2 u t H1 locs ht hvm hwm hB hzq hkq hS => ?_)
  obtain ⟨hP1, hK1, hD1⟩ := hB
  rw [ht] at hP1
  obtain ⟨hP, hD⟩ := va_join (wr := (xw ad ci cz nx pv lo le wo di ba (nI cp) (nI tg) hi mi go)) (w1 := (mw am ci cz li ma wo di ba (nI cp) (nI tg) hi mi go)) hP hD [0, 1, 2, 3, 4, 5] [6, 7, 8, 9, 10, 11, 12, 13] rfl rfl (by decide) (by decide) hkq hFc hP1 hD1
  have hwm : r2 = q_so (q_b01 di) (xs (i + 1)) := hwm
  generalize H1 = H at hP hS ⊢
  have hP : va_P (dC, dI) vwCl ((xw ad ci cz nx pv lo le wo di ba (nI cp) (nI tg) hi mi go) ++ (mw am ci cz li ma wo di ba (nI cp) (nI tg) hi mi go)) H := hP
  refine lv_icmp_eq (tgt := 365) hx hb dL_law_347 (by decide) (fun hc => ?_) (fun hc => ?_)
  · refine KN _ _ ls ⟨_, _, _, _, _, _, _, _, _, _, _, _, _, _, hI, hRx, hRm, hP, hD, hS⟩ (lv_sub hl [0, 1, 2, 3] rfl)
  · exact absurd (hwx.trans hwm.symm) hc
set_option maxHeartbeats 4000000 in
set_option maxRecDepth 100000 in
theorem q_case12 {p : Program} {l : Launch} {e : Env} {s : State} {m : MethodId} {below : List Frame} {meth : Method} {c : Code} {Q : State → Prop} {b N : Nat} {xs : Nat → Int32} {dC : Nat → ClassId} {dI : Nat → Nat → Nat} {ci cz : ClassId} {ad am : Nat → Nat} {cp i : Nat} (hN : N ≤ 193) (C0 : lw_At p s m meth c b N xs) (hi3 : i + 3 ≤ N) (hK : va_K (dC, dI) vwCl (q_ty ci cz) s) (KN : ∀ (H : Heap) (locs : List Loc) (ls : Array Slot), q_In dC dI ci cz ad am cp s H locs → lv_has ls 4 [(0, .ref b), (1, .ref (ad 0)), (2, .ref (am 0)), (3, .int (nI i))] → W p l e room_1 s m #[Value.ref b] below meth c H locs 14 938 Q (F0 m 365 ls [])) : ∀ (H : Heap) (locs : List Loc) (ls : Array Slot), q_In dC dI ci cz ad am cp s H locs → lv_has ls 4 [(0, .ref b), (1, .ref (ad 0)), (2, .ref (am 0)), (3, .int (nI i))] → W p l e room_1 s m #[Value.ref b] below meth c H locs 14 938 Q (F0 m 352 ls []) := by
  intro H locs ls hI9 hl
  obtain ⟨hx, hb, hr, hml, hown, hts0, hX, hbl, hlocks, hgv⟩ := C0
  have hts : ∀ w ∈ lw_all, w.before #[Value.ref b] s = true := fun w h => hts0 w (lw_all_tbl h)
  have hA : ∀ q : Nat, s.heap.size ≤ q → (fun q : Nat => s.heap.size ≤ q) q := fun _ h => h
  have hbA : ¬ (fun q : Nat => s.heap.size ≤ q) b := Nat.not_le.mpr hbl
  obtain ⟨L, tg, di, wo, ba, hi, mi, go, nx, pv, lo, le, li, ma, hI, hRx, hRm, hP, hD, hS⟩ := hI9
  refine lv_aload_n hx hb dL_law_352 rfl (lv_at hl 1 rfl) ?_
  have hPc := hP.sub (ws' := (xw ad ci cz nx pv lo le wo di ba (nI cp) (nI tg) hi mi go)) [0, 1, 2, 3, 4, 5, 6, 7] rfl
  have hDc := hD.sub (ws' := (xw ad ci cz nx pv lo le wo di ba (nI cp) (nI tg) hi mi go)) [0, 1, 2, 3, 4, 5, 6, 7] (by decide) rfl
  have hFc := va_free (wc := (xw ad ci cz nx pv lo le wo di ba (nI cp) (nI tg) hi mi go)) hD hS hA [0, 1, 2, 3, 4, 5, 6, 7] rfl
  refine va_calli (va_runV (As := []) (rest := []) ⟨hx, hb, hml, hown, hts⟩ (metX1_gone l dC dI ci cz ad H.size nx pv lo le wo di ba (nI cp) (nI tg) hi mi go ) (cwV 0 hts (lw_V q148 q149 q150 q16 q151) rfl rfl rfl (by decide +kernel) ⟨Nat.le_of_ble_eq_true rfl, Nat.le_of_ble_eq_true rfl⟩) ⟨q_blind, va_recv hK hPc (ci := 0) (q0 := 0) rfl rfl, fun U hU hW => q_ent hPc hK hDc hU hW⟩ rfl rfl hl.1 rfl (lv_room (Nat.le_of_ble_eq_true rfl)) dL_law_353 ⟨Nat.le_of_ble_eq_true rfl, Nat.le_of_ble_eq_true rfl⟩) hS (fun q _ h => hFc q h) hFc (fun r1 u t H1 locs ht hvm hwx hB hzq hkq hS => ?_)
  obtain ⟨hP1, hK1, hD1⟩ := hB
  rw [ht] at hP1
  obtain ⟨hP, hD⟩ := va_join (wr := (mw am ci cz li ma wo di ba (nI cp) (nI tg) hi mi go)) (w1 := (xw ad ci cz nx pv lo le wo di ba (nI cp) (nI tg) hi mi go)) hP hD [0, 1, 2, 3, 4, 5, 6, 7] [8, 9, 10, 11, 12, 13] rfl rfl (by decide) (by decide) hkq hFc hP1 hD1
  have hwx : r1 = go := hwx
  generalize H1 = H at hP hS ⊢
  have hP : va_P (dC, dI) vwCl ((mw am ci cz li ma wo di ba (nI cp) (nI tg) hi mi go) ++ (xw ad ci cz nx pv lo le wo di ba (nI cp) (nI tg) hi mi go)) H := hP
  refine lv_aload_n hx hb dL_law_356 rfl (lv_at hl 2 rfl) ?_
  have hPc := hP.sub (ws' := (mw am ci cz li ma wo di ba (nI cp) (nI tg) hi mi go)) [0, 1, 2, 3, 4, 5] rfl
  have hDc := hD.sub (ws' := (mw am ci cz li ma wo di ba (nI cp) (nI tg) hi mi go)) [0, 1, 2, 3, 4, 5] (by decide) rfl
  have hFc := va_free (wc := (mw am ci cz li ma wo di ba (nI cp) (nI tg) hi mi go)) hD hS hA [0, 1, 2, 3, 4, 5] rfl
  refine va_calli (va_runV (As := []) (rest := [.int r1]) ⟨hx, hb, hml, hown, hts⟩ (metX2_gone l dC dI ci cz am H.size li ma wo di ba (nI cp) (nI tg) hi mi go ) (cwV 0 hts (lw_V q276 q277 q278 q17 q279) rfl rfl rfl (by decide +kernel) ⟨Nat.le_of_ble_eq_true rfl, Nat.le_of_ble_eq_true rfl⟩) ⟨q_blind, va_recv hK hPc (ci := 1) (q0 := 0) rfl rfl, fun U hU hW => q_ent hPc hK hDc hU hW⟩ rfl rfl hl.1 rfl (lv_room (Nat.le_of_ble_eq_true rfl)) dL_law_357 ⟨Nat.le_of_ble_eq_true rfl, Nat.le_of_ble_eq_true rfl⟩) hS (fun q _ h => hFc q h) hFc (fun r2 u t H1 locs ht hvm hwm hB hzq hkq hS => ?_)
  obtain ⟨hP1, hK1, hD1⟩ := hB
  rw [ht] at hP1
  obtain ⟨hP, hD⟩ := va_join (wr := (xw ad ci cz nx pv lo le wo di ba (nI cp) (nI tg) hi mi go)) (w1 := (mw am ci cz li ma wo di ba (nI cp) (nI tg) hi mi go)) hP hD [0, 1, 2, 3, 4, 5] [6, 7, 8, 9, 10, 11, 12, 13] rfl rfl (by decide) (by decide) hkq hFc hP1 hD1
  have hwm : r2 = go := hwm
  generalize H1 = H at hP hS ⊢
  have hP : va_P (dC, dI) vwCl ((xw ad ci cz nx pv lo le wo di ba (nI cp) (nI tg) hi mi go) ++ (mw am ci cz li ma wo di ba (nI cp) (nI tg) hi mi go)) H := hP
  refine lv_icmp_eq (tgt := 365) hx hb dL_law_360 (by decide) (fun hc => ?_) (fun hc => ?_)
  · refine KN _ _ ls ⟨_, _, _, _, _, _, _, _, _, _, _, _, _, _, hI, hRx, hRm, hP, hD, hS⟩ (lv_sub hl [0, 1, 2, 3] rfl)
  · exact absurd (hwx.trans hwm.symm) hc
end
section
set_option maxHeartbeats 4000000 in
set_option maxRecDepth 100000 in
theorem law_loop {p : Program} {l : Launch} {e : Env} {s : State} {m : MethodId} {below : List Frame} {meth : Method} {c : Code} {b N : Nat} {xs : Nat → Int32} {dC : Nat → ClassId} {dI : Nat → Nat → Nat} {ci cz : ClassId} {ad am : Nat → Nat} {cp : Nat} (hN : N ≤ 193) (C0 : lw_At p s m meth c b N xs) (hK : va_K (dC, dI) vwCl (q_ty ci cz) s) : ∀ (n i : Nat), i ≤ N + 1 → N + 2 ≤ i + n → ∀ (H : Heap) (locs : List Loc) (ls : Array Slot), q_In dC dI ci cz ad am cp s H locs → lv_has ls 4 [(0, .ref b), (1, .ref (ad 0)), (2, .ref (am 0)), (3, .int (nI i))] → W p l e room_1 s m #[Value.ref b] below meth c H locs 14 938 (lw_Z below #[Value.ref b] s) (F0 m 28 ls []) := by
  obtain ⟨hx, hb, hr, hml, hown, hts0, hX, hbl, hlocks, hgv⟩ := id C0
  have hA : ∀ q : Nat, s.heap.size ≤ q → (fun q : Nat => s.heap.size ≤ q) q := fun _ h => h
  have hbA : ¬ (fun q : Nat => s.heap.size ≤ q) b := Nat.not_le.mpr hbl
  intro n
  induction n with
  | zero => intro i h1 h2; exact absurd h2 (by omega)
  | succ n ih =>
    intro i hi1 hi2 H locs ls hI9 hl
    have hS : va_S (fun q : Nat => s.heap.size ≤ q) s.heap H locs := by obtain ⟨_, _, _, _, _, _, _, _, _, _, _, _, _, _, _, _, _, _, _, hS⟩ := hI9; exact hS
    refine lv_iload_n hx hb dL_law_28 rfl (lv_at hl 3 rfl) ?_
    refine lv_aload_n hx hb dL_law_29 rfl (lv_at hl 0 rfl) ?_
    refine va_slen hx hb hX hbl hbA hS dL_law_30 ?_
    refine q_top (y := nI N) rfl ?_
    refine lv_iconst (v := (nI 3)) hx hb dL_law_31 (by decide) ?_
    refine lv_isub hx hb dL_law_32 ?_
    refine lv_icmp_gt (tgt := 371) hx hb dL_law_33 (by decide) (fun hc => ?_) (fun hc => ?_)
    · refine lv_iconst (v := (nI 1)) hx hb dL_law_371 (by decide) ?_
      refine va_forget (fun q hq => hS.2.2 q hq) ?_
      refine W.widen (k := 600000) (n := 7290000) (Nat.le_of_ble_eq_true rfl) (Nat.le_of_ble_eq_true rfl) ?_
      exact lw_ret hx hb hr hlocks dL_law_372
    · have hi3 : i + 3 ≤ N := by
        have g1 : ¬ (nI N - nI 3).toInt < (nI i).toInt := fun q => hc (q_ltI.mpr q)
        rw [pk_sub_toInt (by omega) (by decide), nI_toInt (by omega)] at g1
        omega
      refine lv_aload_n hx hb dL_law_36 rfl (lv_at hl 0 rfl) ?_
      refine lv_iload_n hx hb dL_law_37 rfl (lv_at hl 3 rfl) ?_
      refine va_sld hx hb hX hbl hbA hS (vp_in_nI (n := i) (N := N) (by omega) (by omega)) dL_law_38 ?_
      refine q_top (y := xs i) (by rw [nI_clamp (by omega)]) ?_
      refine lv_bipush (v := (nI 15)) hx hb dL_law_39 (by decide) ?_
      refine lv_iand hx hb dL_law_41 ?_
      obtain ⟨j, hj, ej⟩ := pk_andE (xs i) (m := nI 15) 4 (by decide)
      refine q_top ej ?_
      have KN : ∀ (H : Heap) (locs : List Loc) (ls : Array Slot), q_In dC dI ci cz ad am cp s H locs → lv_has ls 4 [(0, .ref b), (1, .ref (ad 0)), (2, .ref (am 0)), (3, .int (nI i))] → W p l e room_1 s m #[Value.ref b] below meth c H locs 14 938 (lw_Z below #[Value.ref b] s) (F0 m 365 ls []) := by
        intro H locs ls hI9 hl
        refine lv_iinc (v := (nI (i + 3))) (lv' := [(3, .int (nI (i + 3))), (0, .ref b), (1, .ref (ad 0)), (2, .ref (am 0))]) hx hb dL_law_365 hl (k := 3) rfl (q_inc3 i) (by decide) rfl (fun ls hl => ?_)
        refine lv_goto (tgt := 28) hx hb dL_law_368 (by decide) ?_
        exact ih (i + 3) (by omega) (by omega) _ _ ls hI9 (lv_sub hl [1, 2, 3, 0] rfl)
      rcases (show j = 0 ∨ j = 1 ∨ j = 2 ∨ j = 3 ∨ j = 4 ∨ j = 5 ∨ j = 6 ∨ j = 7 ∨ j = 8 ∨ j = 9 ∨ j = 10 ∨ j = 11 ∨ j = 12 ∨ 13 ≤ j by omega) with rfl | rfl | rfl | rfl | rfl | rfl | rfl | rfl | rfl | rfl | rfl | rfl | rfl | hj13
      · refine lv_tableIn (tgt := 108) hx hb dL_law_42 (by decide) (by decide) rfl (by decide) ?_
        exact q_case0 hN C0 hi3 hK KN _ _ _ hI9 hl
      · refine lv_tableIn (tgt := 119) hx hb dL_law_42 (by decide) (by decide) rfl (by decide) ?_
        exact q_case1 hN C0 hi3 hK KN _ _ _ hI9 hl
      · refine lv_tableIn (tgt := 142) hx hb dL_law_42 (by decide) (by decide) rfl (by decide) ?_
        exact q_case2 hN C0 hi3 hK KN _ _ _ hI9 hl
      · refine lv_tableIn (tgt := 175) hx hb dL_law_42 (by decide) (by decide) rfl (by decide) ?_
        exact q_case3 hN C0 hi3 hK KN _ _ _ hI9 hl
      · refine lv_tableIn (tgt := 188) hx hb dL_law_42 (by decide) (by decide) rfl (by decide) ?_
        exact q_case4 hN C0 hi3 hK KN _ _ _ hI9 hl
      · refine lv_tableIn (tgt := 211) hx hb dL_law_42 (by decide) (by decide) rfl (by decide) ?_
        exact q_case5 hN C0 hi3 hK KN _ _ _ hI9 hl
      · refine lv_tableIn (tgt := 244) hx hb dL_law_42 (by decide) (by decide) rfl (by decide) ?_
        exact q_case6 hN C0 hi3 hK KN _ _ _ hI9 hl
      · refine lv_tableIn (tgt := 267) hx hb dL_law_42 (by decide) (by decide) rfl (by decide) ?_
        exact q_case7 hN C0 hi3 hK KN _ _ _ hI9 hl
      · refine lv_tableIn (tgt := 280) hx hb dL_law_42 (by decide) (by decide) rfl (by decide) ?_
        exact q_case8 hN C0 hi3 hK KN _ _ _ hI9 hl
      · refine lv_tableIn (tgt := 293) hx hb dL_law_42 (by decide) (by decide) rfl (by decide) ?_
        exact q_case9 hN C0 hi3 hK KN _ _ _ hI9 hl
      · refine lv_tableIn (tgt := 306) hx hb dL_law_42 (by decide) (by decide) rfl (by decide) ?_
        exact q_case10 hN C0 hi3 hK KN _ _ _ hI9 hl
      · refine lv_tableIn (tgt := 329) hx hb dL_law_42 (by decide) (by decide) rfl (by decide) ?_
        exact q_case11 hN C0 hi3 hK KN _ _ _ hI9 hl
      · refine lv_tableIn (tgt := 352) hx hb dL_law_42 (by decide) (by decide) rfl (by decide) ?_
        exact q_case12 hN C0 hi3 hK KN _ _ _ hI9 hl
      · refine lv_tableOut (tgt := 365) hx hb dL_law_42 (Or.inr (by rw [nI_toInt (by omega)]; omega)) (by decide) ?_
        exact KN _ _ _ hI9 hl
end
section
set_option maxHeartbeats 4000000 in
set_option maxRecDepth 100000 in
theorem whole_start {p : Program} {e : Env} {s : State} {m : MethodId} {below : List Frame} {meth : Method} {c : Code} (l : Launch) {b L : Nat} {xs : Nat → Int32} (hL : L ≤ 193) (C0 : lw_At p s m meth c b L xs) : W p l e room_1 s m #[Value.ref b] below meth c s.heap [] 0 0 (lw_Z below #[Value.ref b] s) (entryFrame m ([Value.ref b] : List Value).toArray 4) := by
  obtain ⟨hx, hb, hr, hml, hown, hts0, hX, hbl, hlocks, hgv⟩ := id C0
  have hts : ∀ w ∈ lw_all, w.before #[Value.ref b] s = true := fun w h => hts0 w (lw_all_tbl h)
  have hA : ∀ q : Nat, s.heap.size ≤ q → (fun q : Nat => s.heap.size ≤ q) q := fun _ h => h
  have hbA : ¬ (fun q : Nat => s.heap.size ≤ q) b := Nat.not_le.mpr hbl
  obtain ⟨c0_, iS0, hKn0⟩ := u_known (C := RX1) (T := TX1) (N := 12) (n := 12) hts0 (fun w h => lw_all_tbl (in_X1 w h)) (hts _ q19)
  obtain ⟨c1_, iS1, hKn1⟩ := u_known (C := RX2) (T := TX2) (N := 10) (n := 10) hts0 (fun w h => lw_all_tbl (in_X2 w h)) (hts _ q156)
  obtain ⟨dC, dI, hKc⟩ : ∃ (dC : Nat → ClassId) (dI : Nat → Nat → Nat), ∀ (k : Nat) (q : vw_C), vwCl[k]? = some q → u_Kn s q.1 q.2.1 q.2.2 (dC k) (dI k) := by
    refine ⟨fun k => if k = 0 then c0_ else c1_, fun k => if k = 0 then iS0 else iS1, ?_⟩
    intro k q hq
    match k, hq with
    | 0, hq => cases hq; exact hKn0
    | 1, hq => cases hq; exact hKn1
    | k + 2, hq => simp [vwCl] at hq
  have hS : va_S (fun q : Nat => s.heap.size ≤ q) s.heap s.heap [] := va_S.rf
  have hK : va_K (dC, dI) vwCl [] s := ⟨hKc, fun k q h => by simp at h⟩
  have hP : va_P (dC, dI) vwCl [] s.heap := fun k q h => by simp at h
  have hD : va_D (fun q : Nat => s.heap.size ≤ q) [] := ⟨fun i j p q h => by simp at h, fun k q h => by simp at h⟩
  have hl := lv_entry ([.ref b]) (n := 4) (Nat.le_of_ble_eq_true rfl)
  rw [lg_entry_eq]
  generalize (lg_sl ([.ref b]) ++ List.replicate (4 - (lg_sl ([.ref b])).length) Slot.unset).toArray = ls at hl ⊢
  have hl : lv_has ls 4 [(0, .ref b)] := hl
  refine va_new (ci := 0) (fs := x_f0) (C := RX1) (T := TX1) (N := 12) hx hb hts in_X1 tyX1 tyX1_ok hown (hts _ q18) (hts _ q19) (hts _ q16) hK hP hD hS hA rfl (fun j hj => by rcases (show j = 0 ∨ j = 1 ∨ j = 2 ∨ j = 3 ∨ j = 4 ∨ j = 5 ∨ j = 6 ∨ j = 7 ∨ j = 8 ∨ j = 9 ∨ j = 10 ∨ j = 11 by omega) with rfl | rfl | rfl | rfl | rfl | rfl | rfl | rfl | rfl | rfl | rfl | rfl <;> rfl) (Nat.le_of_ble_eq_true rfl) (Nat.le_of_ble_eq_true rfl) dL_law_0 (fun h1 H hP hD hS => ?_)
  have hP : va_P (dC, dI) vwCl [(h1, .inr (0, x_f0))] H := hP
  have hD : va_D (fun q : Nat => s.heap.size ≤ q) [(h1, .inr (0, x_f0))] := hD
  refine W.widen (k := 1) (n := 12) (by omega) (by omega) ?_
  refine lv_dup hx hb dL_law_3 rfl ?_
  refine lv_aload_n hx hb dL_law_4 rfl (lv_at hl 0 rfl) ?_
  refine lv_iconst (v := (nI 0)) hx hb dL_law_5 (by decide) ?_
  refine va_calli (va_runS (As := [.ref b, .int (nI 0)]) (rest := [.ref h1, .ref h1]) ⟨hx, hb, hml, hown, hts⟩ (metX0_cell l b L xs (by omega)) (va_cwS 2 hts (lw_S q152 q153 q15 q154) rfl rfl rfl (by decide +kernel) ⟨Nat.le_of_ble_eq_true rfl, Nat.le_of_ble_eq_true rfl⟩) ⟨fun a U g mk q => ⟨q.1, va_X.moved (u := U) (U := U.calling g mk a) (Vm.Alike.refl U.vm) q.2.1, q.2.2⟩, fun U hU hW => ⟨rfl, by rw [hU]; exact va_X.moved hW.alike (hX.kept (hS.2.1 b hbl hbA)), by rw [hU]; exact Nat.lt_of_lt_of_le hbl hS.1⟩⟩ rfl rfl hl.1 rfl (lv_room (Nat.le_of_ble_eq_true rfl)) dL_law_6 ⟨Nat.le_of_ble_eq_true rfl, Nat.le_of_ble_eq_true rfl⟩) hS (fun q _ h => h.elim) (fun q h => h.elim) (fun r1 u t H1 locs ht hvm hw hB hzq hkq hS => ?_)
  have hw : r1 = q_first L xs := hw
  subst hw
  have hP : va_P (dC, dI) vwCl [(h1, .inr (0, x_f0))] H1 := hP.kept (fun k q hq => hkq q.1 ((hP k q hq).lt) (fun h => h))
  generalize H1 = H at hP hS ⊢
  have hPc := hP.sub (ws' := [(h1, .inr (0, x_f0))]) [0] rfl
  have hDc := hD.sub (ws' := [(h1, .inr (0, x_f0))]) [0] (by decide) rfl
  have hKc := hK.sub (tys' := []) [] rfl
  have hFc := va_free (wc := [(h1, .inr (0, x_f0))]) hD hS hA [0] rfl
  refine va_callv (va_runI (As := [.int (q_first L xs)]) (rest := [.ref h1]) ⟨hx, hb, hml, hown, hts⟩ (metX1_init l dC dI h1 H.size (q_first L xs)) (cwI 1 hts (lw_meth q22) rfl rfl rfl (hts _ q16) (hts _ q20) (hts _ q21) rfl (by decide +kernel) ⟨Nat.le_of_ble_eq_true rfl, Nat.le_of_ble_eq_true rfl⟩) ⟨fun a U g mk q => by obtain ⟨q0, q1, qP, qK, qD⟩ := q; exact ⟨q0, q1, qP, va_K.moved (u := U) (U := U.calling g mk a) (Vm.Alike.refl U.vm) qK, qD⟩, fun U hU hW => ⟨rfl, by rw [hU], by rw [hU]; exact hPc, va_K.moved hW.alike hKc, hDc.weaken (fun _ _ _ _ => trivial)⟩⟩ rfl rfl hl.1 rfl (lv_room (Nat.le_of_ble_eq_true rfl)) dL_law_9 ⟨Nat.le_of_ble_eq_true rfl, Nat.le_of_ble_eq_true rfl⟩) hS (fun q _ h => hFc q h) hFc (fun u t H1 locs ht hvm hw hB hzq hkq hS => ?_)
  obtain ⟨ad, ci, cz, nx, pv, lo, le⟩ := u
  have hwx : ad 0 = h1 ∧ x_rep q_L0 nx pv lo le := hw
  obtain ⟨hP1, hK1, hD1⟩ := hB
  rw [ht] at hP1
  have hK1 := va_K.moved hvm.symm hK1
  obtain ⟨hP, hD⟩ := va_join (wr := []) (w1 := (xw ad ci cz nx pv lo le (fun _ => nI 0) (fun _ => nI 0) (fun _ => nI 0) (q_cap (q_first L xs)) (nI 0) (nI 0) (nI 0) (nI 0))) hP hD [0] [] rfl rfl (by decide) (by decide) hkq hFc hP1 hD1
  generalize H1 = H at hP hS ⊢
  have hP : va_P (dC, dI) vwCl (xw ad ci cz nx pv lo le (fun _ => nI 0) (fun _ => nI 0) (fun _ => nI 0) (q_cap (q_first L xs)) (nI 0) (nI 0) (nI 0) (nI 0)) H := hP
  have hD : va_D (fun q : Nat => s.heap.size ≤ q) (xw ad ci cz nx pv lo le (fun _ => nI 0) (fun _ => nI 0) (fun _ => nI 0) (q_cap (q_first L xs)) (nI 0) (nI 0) (nI 0) (nI 0)) := hD
  refine W.widen (k := 8) (n := 411) (by omega) (by omega) ?_
  have hK : va_K (dC, dI) vwCl (q_ty ci cz) s := hK1
  obtain ⟨ex, hwx⟩ := hwx
  rw [← ex]
  refine lv_astore_n (lv' := [(1, .ref (ad 0)), (0, .ref b)]) hx hb dL_law_12 rfl hl (by decide) rfl (fun ls hl => ?_)
  refine va_new (ci := 1) (fs := m_f0) (C := RX2) (T := TX2) (N := 10) hx hb hts in_X2 tyX2 tyX2_ok hown (hts _ q155) (hts _ q156) (hts _ q17) hK hP hD hS hA rfl (fun j hj => by rcases (show j = 0 ∨ j = 1 ∨ j = 2 ∨ j = 3 ∨ j = 4 ∨ j = 5 ∨ j = 6 ∨ j = 7 ∨ j = 8 ∨ j = 9 by omega) with rfl | rfl | rfl | rfl | rfl | rfl | rfl | rfl | rfl | rfl <;> rfl) (Nat.le_of_ble_eq_true rfl) (Nat.le_of_ble_eq_true rfl) dL_law_13 (fun h2 H hP hD hS => ?_)
  have hP : va_P (dC, dI) vwCl ((xw ad ci cz nx pv lo le (fun _ => nI 0) (fun _ => nI 0) (fun _ => nI 0) (q_cap (q_first L xs)) (nI 0) (nI 0) (nI 0) (nI 0)) ++ [(h2, .inr (1, m_f0))]) H := hP
  have hD : va_D (fun q : Nat => s.heap.size ≤ q) ((xw ad ci cz nx pv lo le (fun _ => nI 0) (fun _ => nI 0) (fun _ => nI 0) (q_cap (q_first L xs)) (nI 0) (nI 0) (nI 0) (nI 0)) ++ [(h2, .inr (1, m_f0))]) := hD
  refine W.widen (k := 9) (n := 421) (by omega) (by omega) ?_
  refine lv_dup hx hb dL_law_16 rfl ?_
  refine lv_aload_n hx hb dL_law_17 rfl (lv_at hl 1 rfl) ?_
  refine lv_iconst (v := (nI 0)) hx hb dL_law_18 (by decide) ?_
  refine va_calli (va_runS (As := [.ref b, .int (nI 0)]) (rest := [.ref h2, .ref h2]) ⟨hx, hb, hml, hown, hts⟩ (metX0_cell l b L xs (by omega)) (va_cwS 2 hts (lw_S q152 q153 q15 q154) rfl rfl rfl (by decide +kernel) ⟨Nat.le_of_ble_eq_true rfl, Nat.le_of_ble_eq_true rfl⟩) ⟨fun a U g mk q => ⟨q.1, va_X.moved (u := U) (U := U.calling g mk a) (Vm.Alike.refl U.vm) q.2.1, q.2.2⟩, fun U hU hW => ⟨rfl, by rw [hU]; exact va_X.moved hW.alike (hX.kept (hS.2.1 b hbl hbA)), by rw [hU]; exact Nat.lt_of_lt_of_le hbl hS.1⟩⟩ rfl rfl hl.1 rfl (lv_room (Nat.le_of_ble_eq_true rfl)) dL_law_19 ⟨Nat.le_of_ble_eq_true rfl, Nat.le_of_ble_eq_true rfl⟩) hS (fun q _ h => h.elim) (fun q h => h.elim) (fun r2 u t H1 locs ht hvm hw hB hzq hkq hS => ?_)
  have hw : r2 = q_first L xs := hw
  subst hw
  have hP : va_P (dC, dI) vwCl ((xw ad ci cz nx pv lo le (fun _ => nI 0) (fun _ => nI 0) (fun _ => nI 0) (q_cap (q_first L xs)) (nI 0) (nI 0) (nI 0) (nI 0)) ++ [(h2, .inr (1, m_f0))]) H1 := hP.kept (fun k q hq => hkq q.1 ((hP k q hq).lt) (fun h => h))
  generalize H1 = H at hP hS ⊢
  have hPc := hP.sub (ws' := [(h2, .inr (1, m_f0))]) [8] rfl
  have hDc := hD.sub (ws' := [(h2, .inr (1, m_f0))]) [8] (by decide) rfl
  have hKc := hK.sub (tys' := []) [] rfl
  have hFc := va_free (wc := [(h2, .inr (1, m_f0))]) hD hS hA [8] rfl
  refine va_callv (va_runI (As := [.int (q_first L xs)]) (rest := [.ref h2]) ⟨hx, hb, hml, hown, hts⟩ (metX2_init l dC dI h2 H.size (q_first L xs)) (cwI 1 hts (lw_meth q159) rfl rfl rfl (hts _ q17) (hts _ q157) (hts _ q158) rfl (by decide +kernel) ⟨Nat.le_of_ble_eq_true rfl, Nat.le_of_ble_eq_true rfl⟩) ⟨fun a U g mk q => by obtain ⟨q0, q1, qP, qK, qD⟩ := q; exact ⟨q0, q1, qP, va_K.moved (u := U) (U := U.calling g mk a) (Vm.Alike.refl U.vm) qK, qD⟩, fun U hU hW => ⟨rfl, by rw [hU], by rw [hU]; exact hPc, va_K.moved hW.alike hKc, hDc.weaken (fun _ _ _ _ => trivial)⟩⟩ rfl rfl hl.1 rfl (lv_room (Nat.le_of_ble_eq_true rfl)) dL_law_22 ⟨Nat.le_of_ble_eq_true rfl, Nat.le_of_ble_eq_true rfl⟩) hS (fun q _ h => hFc q h) hFc (fun u t H1 locs ht hvm hw hB hzq hkq hS => ?_)
  obtain ⟨am, ci2, cz2, li, ma⟩ := u
  have hwm : am 0 = h2 ∧ m_rep q_L0 li ma := hw
  obtain ⟨hP1, hK1, hD1⟩ := hB
  rw [ht] at hP1
  have hK1 := va_K.moved hvm.symm hK1
  obtain ⟨hP, hD⟩ := va_join (wr := (xw ad ci cz nx pv lo le (fun _ => nI 0) (fun _ => nI 0) (fun _ => nI 0) (q_cap (q_first L xs)) (nI 0) (nI 0) (nI 0) (nI 0))) (w1 := (mw am ci2 cz2 li ma (fun _ => nI 0) (fun _ => nI 0) (fun _ => nI 0) (q_cap (q_first L xs)) (nI 0) (nI 0) (nI 0) (nI 0))) hP hD [8] [0, 1, 2, 3, 4, 5, 6, 7] rfl rfl (by decide) (by decide) hkq hFc hP1 hD1
  generalize H1 = H at hP hS ⊢
  have hP : va_P (dC, dI) vwCl ((xw ad ci cz nx pv lo le (fun _ => nI 0) (fun _ => nI 0) (fun _ => nI 0) (q_cap (q_first L xs)) (nI 0) (nI 0) (nI 0) (nI 0)) ++ (mw am ci2 cz2 li ma (fun _ => nI 0) (fun _ => nI 0) (fun _ => nI 0) (q_cap (q_first L xs)) (nI 0) (nI 0) (nI 0) (nI 0))) H := hP
  have hD : va_D (fun q : Nat => s.heap.size ≤ q) ((xw ad ci cz nx pv lo le (fun _ => nI 0) (fun _ => nI 0) (fun _ => nI 0) (q_cap (q_first L xs)) (nI 0) (nI 0) (nI 0) (nI 0)) ++ (mw am ci2 cz2 li ma (fun _ => nI 0) (fun _ => nI 0) (fun _ => nI 0) (q_cap (q_first L xs)) (nI 0) (nI 0) (nI 0) (nI 0))) := hD
  refine W.widen (k := 14) (n := 938) (by omega) (by omega) ?_
  have hK2 : va_K (dC, dI) vwCl (q_ty ci cz ++ q_ty ci2 cz2) s := hK.app hK1
  have e1 : ci = ci2 := q_same hK2 0 2 rfl rfl
  subst e1
  have e2 : cz = cz2 := q_sameZ hK2 1 3 rfl rfl
  subst e2
  obtain ⟨em, hwm⟩ := hwm
  rw [← em]
  refine lv_astore_n (lv' := [(2, .ref (am 0)), (1, .ref (ad 0)), (0, .ref b)]) hx hb dL_law_25 rfl hl (by decide) rfl (fun ls hl => ?_)
  refine lv_iconst (v := (nI 1)) hx hb dL_law_26 (by decide) ?_
  refine lv_istore_n (lv' := [(3, .int (nI 1)), (2, .ref (am 0)), (1, .ref (ad 0)), (0, .ref b)]) hx hb dL_law_27 rfl hl (by decide) rfl (fun ls hl => ?_)
  obtain ⟨cp, hcp1, hcp24, ecp⟩ := q_cap_ok (q_first L xs)
  rw [ecp] at hP hD
  exact law_loop hL C0 hK (L + 1) 1 (by omega) (by omega) _ _ ls ⟨q_L0, 0, _, _, _, _, _, _, _, _, _, _, _, _, q_inv_0 (di := (fun _ => nI 0)) hcp1 hcp24 (fun _ => rfl), hwx, hwm, hP, hD, hS⟩ (lv_sub hl [3, 2, 1, 0] rfl)
end
section
set_option maxHeartbeats 4000000 in
theorem lw_walk (l : Launch) (b : Addr) (xs : List Int32) : MetFree l x (headSpec (Jvm.Cond.code x code maxLocals ret :: tables_1) room_1) (lw_P b xs) (fun _ _ _ _ _ => True) lw_Q := by
  refine MetFree.of_bodyS (code := code) (maxLocals := maxLocals) (ret := ret) (by decide) ?_ ?_
  · intro args s m h hn
    obtain ⟨meth, c, h1, h2, h3, h4, h5, h6, -, -⟩ := Cond.code_spec hn (atoms_spec (ws := Jvm.Cond.code x code maxLocals ret :: tables_1) h _ List.mem_cons_self)
    exact ⟨meth, c, h1, h2, h3, h4, h5, h6⟩
  · intro p e s m args below meth c s₁ B hml0 hP _
    obtain ⟨rfl, hx, hbd, hgv⟩ := hP
    obtain ⟨scr, harrAt, hlist, hof, hsmall⟩ := hx
    obtain ⟨hcb, hkn, -, -⟩ := State.arrayAt?_spec harrAt
    have hown : s.vm.findClass R_law = some m.cls := findClass_of_methodNamed B.named
    have hts0 : ∀ c ∈ (Jvm.Cond.code x code maxLocals ret :: tables_1), c.before #[Value.ref b] s = true := atoms_spec (ws := Jvm.Cond.code x code maxLocals ret :: tables_1) B.pre
    have hts : ∀ w ∈ lw_tbl, w.before #[Value.ref b] s = true := k2_hts_sels lw_privs (fun w hw => hts0 w (List.mem_cons_of_mem _ hw)) lw_privs_ok
    have hml : c.maxLocals = 4 := B.maxLocals_eq (hts0 _ List.mem_cons_self)
    have X₀ : Stand p l e room_1 s m #[Value.ref b] below meth c s₁ [] 0 0 := Stand.of_body B
    have hh0 : s₁.heap = s.heap := by rw [B.state]; rfl
    have hsz : scr.slots.size = xs.length := by rw [← Array.length_toList, hlist, List.length_map]
    have hval : ∀ j : Nat, j < xs.length → scr.slots[j]? = some (.int (xs.getD j 0)) := fun j hj => by
      rw [← Array.getElem?_toList, hlist]
      simp [hj]
    have hbl : b < s.heap.size := (Array.getElem?_eq_some_iff.mp hcb).1
    have hX : va_X b xs.length (fun j => xs.getD j 0) s s.heap := ⟨scr, hcb, hof, hkn, hsz, hval⟩
    have K : W p l e room_1 s m #[Value.ref b] below meth c s₁.heap [] 0 0 (lw_Z below #[Value.ref b] s) (entryFrame m ([Value.ref b] : List Value).toArray 4) := by
      rw [hh0]
      exact whole_start l hbd ⟨B.exec, B.bytes, B.returns, hml, hown, hts, hX, hbl, B.notSynchronized, hgv⟩
    obtain ⟨t, a1, o, b1, b2, b3⟩ := K s₁ rfl X₀
    exact ⟨t, o, a1, b1, b2, b3⟩
theorem lw_pre_spec {args : Array Value} {s : State} (h : (Jvm.Cond.and given_1 narrow_1).before args s = true) (hr : rest_1_c.before args s = true) : ∃ (b : Addr) (xs : List Int32), lw_P b xs args s := by
  have hs := flat_of_before _ h
  have hq := flat_of_before _ hr
  have hc : (Cond.count 1).before args s = true := hs _ (by decide +kernel)
  have harr : (Cond.arrayOf (.arg 0) .int).before args s = true := hs _ (by decide +kernel)
  have hle : (Cond.le (.length (.arg 0)) (.int 193)).before args s = true := hs _ (by decide +kernel)
  have hlen : (Cond.isInt (.length (.arg 0))).before args s = true := hq _ (by decide +kernel)
  have hall : (Cond.all (.arg 0) (.isInt (.elem (.arg 0) (.index 0)))).before args s = true := hq _ (by decide +kernel)
  obtain ⟨b, xs, hb, hx⟩ := State.ints_of_pre rfl harr hlen hall
  have hsm : xs.length < 2 ^ 31 := hx.choose_spec.2.2.2
  have hev : (Term.length (.arg 0)).eval args s none [] s = some (.int xs.length.toInt32) := hx.length_eval hb
  have hv := Cond.le_ints hev (show (Term.int 193).eval args s none [] s = some (.int 193) from rfl)
  have hd : xs.length.toInt32 ≤ 193 := by
    simpa [Cond.before, Cond.holds, hv] using hle
  have hN : xs.length ≤ 193 := (Int32.ofNat_le_ofNat hsm (by decide)).mp (show Int32.ofNat xs.length ≤ Int32.ofNat 193 from hd)
  exact ⟨b, xs, Cond.one_arg hc (show args[0]? = some (.ref b) from hb), hx, hN, h⟩
theorem lw_comes (l : Launch) : Comes l x (Jvm.Cond.code x code maxLocals ret :: tables_1) room_1 (fun tb e args s => Calls_1 tb e args s ∧ rest_1 tb e args s ∧ Pre_1 tb e args s)
    (fun _ _ args s o t => lw_Q args s o t) := by
  intro p e ha hc hk s m args below hf hfit hheap happ hpre
  obtain ⟨b, xs, hP⟩ := lw_pre_spec hpre.2.2 hpre.2.1
  obtain ⟨k, o, h1, h2, h3, hQ⟩ := lw_walk l b xs p e ha hc hk s m args below hf ((Spec.applies_iff_loose hf).mp happ).1 hP trivial
  exact ⟨k, o, h1, h2, h3, hQ⟩
theorem lw_frame {s t : State} {o : Outcome} {args : Array Value} (h : Framed s o t [] 600000 7290000) :
    Framed s o t (fieldLocs frame_1_writes args s ++ arrayLocs frame_1_arrays args s ++ staticLocs frame_1_statics s) 600000 7290000 := h
theorem lw_limb (L : Cond) (hL : ∀ (args : Array Value) (s t : State), L.after args s (.returned (some (.int 1))) t = true) :
    ArmFor flags0 classFile x code maxLocals ret World_1 tables_1 room_1 Calls_1 rest_1 Pre_1
      (fun tb e a s o t => postC L tb e a s o t ∧ Framed s o t (fieldLocs frame_1_writes a s ++ arrayLocs frame_1_arrays a s ++ staticLocs frame_1_statics s) 600000 7290000) := by
  intro l _ _ _ p e ha hc hk s m args below hf hfit hheap happ hpre
  obtain ⟨k, o, h1, h2, h3, rfl, hF⟩ := lw_comes l p e ha hc hk s m args below hf hfit hheap happ hpre
  exact ⟨k, _, h1, h2, h3, hL args s _, lw_frame hF⟩
theorem i_vc : Claimed_1_1 ∧ Claimed_1_2 := ⟨lw_limb limb_1_1 (fun args s t => by simp [limb_1_1, Cond.after, Cond.holds, Cond.value]), lw_limb limb_1_2 (fun args s t => Cond.after_iff.mpr (by
  first | (rw [show limb_1_2 = Cond.eq .result (.int 1) from rfl, Cond.eq_ints (x := 1) (y := 1) rfl rfl]; simp; done) | (simp [limb_1_2, Cond.value, Term.eval]; done)))⟩
end
