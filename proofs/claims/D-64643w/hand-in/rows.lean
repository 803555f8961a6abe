section
-- ===== PART A: goes FIRST, ahead of the names: the tables' words, and 'selects' of the private methods out of them =====
/-- a private method of a class that the tables say can be made, by its rows of tables_1 -/
def lw_okq (q : MethodName × Nat) : Prop := (q.1.cls ≠ "java/lang/invoke/MethodHandle" ∧ q.1.cls ≠ "java/lang/invoke/VarHandle") ∧ Cond.instantiable q.1.cls q.2 ∈ tables_1 ∧ Cond.privateMethod q.1 ∈ tables_1 ∧ Cond.instanceMethod q.1 ∈ tables_1
set_option maxRecDepth 100000
theorem lw_t1 {w : Cond} (h : w ∈ tables_1_1) : w ∈ tables_1 := List.mem_append_left _ h
theorem lw_t2 {w : Cond} (h : w ∈ tables_1_2) : w ∈ tables_1 := List.mem_append_right _ h
theorem lw_p0 : lw_okq (⟨"TreeCodes", "refresh", "(I)V"⟩, 6) := ⟨⟨by decide +kernel, by decide +kernel⟩, lw_t1 (List.mem_of_getElem? (i := 4) rfl), lw_t1 (List.mem_of_getElem? (i := 36) rfl), lw_t1 (List.mem_of_getElem? (i := 37) rfl)⟩
theorem lw_p1 : lw_okq (⟨"TreeCodes", "opensAt", "(I)Z"⟩, 6) := ⟨⟨by decide +kernel, by decide +kernel⟩, lw_t1 (List.mem_of_getElem? (i := 4) rfl), lw_t1 (List.mem_of_getElem? (i := 40) rfl), lw_t1 (List.mem_of_getElem? (i := 41) rfl)⟩
theorem lw_p2 : lw_okq (⟨"TreeCodes", "opensBefore", "(I)I"⟩, 6) := ⟨⟨by decide +kernel, by decide +kernel⟩, lw_t1 (List.mem_of_getElem? (i := 4) rfl), lw_t1 (List.mem_of_getElem? (i := 48) rfl), lw_t1 (List.mem_of_getElem? (i := 49) rfl)⟩
theorem lw_p3 : lw_okq (⟨"TreeCodes", "levelBefore", "(I)I"⟩, 6) := ⟨⟨by decide +kernel, by decide +kernel⟩, lw_t1 (List.mem_of_getElem? (i := 4) rfl), lw_t1 (List.mem_of_getElem? (i := 60) rfl), lw_t1 (List.mem_of_getElem? (i := 61) rfl)⟩
theorem lw_p4 : lw_okq (⟨"TreeCodes", "backTo", "(II)I"⟩, 6) := ⟨⟨by decide +kernel, by decide +kernel⟩, lw_t1 (List.mem_of_getElem? (i := 4) rfl), lw_t1 (List.mem_of_getElem? (i := 64) rfl), lw_t1 (List.mem_of_getElem? (i := 65) rfl)⟩
theorem lw_p5 : lw_okq (⟨"TreeCodes", "isNode", "(I)Z"⟩, 6) := ⟨⟨by decide +kernel, by decide +kernel⟩, lw_t1 (List.mem_of_getElem? (i := 4) rfl), lw_t1 (List.mem_of_getElem? (i := 79) rfl), lw_t1 (List.mem_of_getElem? (i := 80) rfl)⟩
theorem lw_p6 : lw_okq (⟨"TreeCodes", "placeOf", "(I)I"⟩, 6) := ⟨⟨by decide +kernel, by decide +kernel⟩, lw_t1 (List.mem_of_getElem? (i := 4) rfl), lw_t1 (List.mem_of_getElem? (i := 83) rfl), lw_t1 (List.mem_of_getElem? (i := 84) rfl)⟩
theorem lw_p7 : lw_okq (⟨"TreeCodes", "endOf", "(I)I"⟩, 6) := ⟨⟨by decide +kernel, by decide +kernel⟩, lw_t1 (List.mem_of_getElem? (i := 4) rfl), lw_t1 (List.mem_of_getElem? (i := 95) rfl), lw_t1 (List.mem_of_getElem? (i := 96) rfl)⟩
theorem lw_p8 : lw_okq (⟨"TreeCodes", "forwardTo", "(II)I"⟩, 6) := ⟨⟨by decide +kernel, by decide +kernel⟩, lw_t1 (List.mem_of_getElem? (i := 4) rfl), lw_t1 (List.mem_of_getElem? (i := 99) rfl), lw_t1 (List.mem_of_getElem? (i := 100) rfl)⟩
theorem lw_p9 : lw_okq (⟨"TreeCodes", "nodeAt", "(I)I"⟩, 6) := ⟨⟨by decide +kernel, by decide +kernel⟩, lw_t1 (List.mem_of_getElem? (i := 4) rfl), lw_t1 (List.mem_of_getElem? (i := 111) rfl), lw_t1 (List.mem_of_getElem? (i := 112) rfl)⟩
theorem lw_p10 : lw_okq (⟨"TreeCodes", "leastBetween", "(II)I"⟩, 6) := ⟨⟨by decide +kernel, by decide +kernel⟩, lw_t1 (List.mem_of_getElem? (i := 4) rfl), lw_t1 (List.mem_of_getElem? (i := 129) rfl), lw_t1 (List.mem_of_getElem? (i := 130) rfl)⟩
theorem lw_p11 : lw_okq (⟨"TreeCodesModel", "work", "()V"⟩, 6) := ⟨⟨by decide +kernel, by decide +kernel⟩, lw_t1 (List.mem_of_getElem? (i := 146) rfl), lw_t1 (List.mem_of_getElem? (i := 177) rfl), lw_t1 (List.mem_of_getElem? (i := 178) rfl)⟩
theorem lw_p12 : lw_okq (⟨"TreeCodesModel", "node", "(I)Z"⟩, 6) := ⟨⟨by decide +kernel, by decide +kernel⟩, lw_t1 (List.mem_of_getElem? (i := 146) rfl), lw_t1 (List.mem_of_getElem? (i := 201) rfl), lw_t1 (List.mem_of_getElem? (i := 202) rfl)⟩
theorem lw_p13 : lw_okq (⟨"TreeCodesModel", "under", "(II)Z"⟩, 6) := ⟨⟨by decide +kernel, by decide +kernel⟩, lw_t1 (List.mem_of_getElem? (i := 146) rfl), lw_t1 (List.mem_of_getElem? (i := 213) rfl), lw_t1 (List.mem_of_getElem? (i := 214) rfl)⟩
theorem lw_p14 : lw_okq (⟨"TreeCodesModel", "childrenOf", "(I)I"⟩, 6) := ⟨⟨by decide +kernel, by decide +kernel⟩, lw_t1 (List.mem_of_getElem? (i := 146) rfl), lw_t1 (List.mem_of_getElem? (i := 221) rfl), lw_t1 (List.mem_of_getElem? (i := 222) rfl)⟩
def lw_privs_1 : List (MethodName × Nat) := [(⟨"TreeCodes", "refresh", "(I)V"⟩, 6), (⟨"TreeCodes", "opensAt", "(I)Z"⟩, 6), (⟨"TreeCodes", "opensBefore", "(I)I"⟩, 6), (⟨"TreeCodes", "levelBefore", "(I)I"⟩, 6), (⟨"TreeCodes", "backTo", "(II)I"⟩, 6), (⟨"TreeCodes", "isNode", "(I)Z"⟩, 6), (⟨"TreeCodes", "placeOf", "(I)I"⟩, 6), (⟨"TreeCodes", "endOf", "(I)I"⟩, 6), (⟨"TreeCodes", "forwardTo", "(II)I"⟩, 6), (⟨"TreeCodes", "nodeAt", "(I)I"⟩, 6), (⟨"TreeCodes", "leastBetween", "(II)I"⟩, 6), (⟨"TreeCodesModel", "work", "()V"⟩, 6), (⟨"TreeCodesModel", "node", "(I)Z"⟩, 6), (⟨"TreeCodesModel", "under", "(II)Z"⟩, 6), (⟨"TreeCodesModel", "childrenOf", "(I)I"⟩, 6)]
theorem lw_r1 : ∀ q ∈ lw_privs_1, lw_okq q := List.forall_mem_cons.mpr ⟨lw_p0, List.forall_mem_cons.mpr ⟨lw_p1, List.forall_mem_cons.mpr ⟨lw_p2, List.forall_mem_cons.mpr ⟨lw_p3, List.forall_mem_cons.mpr ⟨lw_p4, List.forall_mem_cons.mpr ⟨lw_p5, List.forall_mem_cons.mpr ⟨lw_p6, List.forall_mem_cons.mpr ⟨lw_p7, List.forall_mem_cons.mpr ⟨lw_p8, List.forall_mem_cons.mpr ⟨lw_p9, List.forall_mem_cons.mpr ⟨lw_p10, List.forall_mem_cons.mpr ⟨lw_p11, List.forall_mem_cons.mpr ⟨lw_p12, List.forall_mem_cons.mpr ⟨lw_p13, List.forall_mem_cons.mpr ⟨lw_p14, fun _ h => absurd h List.not_mem_nil⟩⟩⟩⟩⟩⟩⟩⟩⟩⟩⟩⟩⟩⟩⟩
def lw_privs : List (MethodName × Nat) := lw_privs_1
def lw_tbl : List Cond := k2_sels lw_privs ++ tables_1
theorem lw_privs_ok : ∀ q ∈ lw_privs, lw_okq q := lw_r1
-- ===== ONE list of words for every method: the tables' words that hold all through a run =====
def lw_all : List Cond := lw_tbl.filter goodWord
/-- a word of the tables by its place: claim/WORDS.tsv -/
theorem lw_w {w : Cond} (i : Nat) (h : lw_tbl[i]? = some w) (g : goodWord w = true) : w ∈ lw_all := List.mem_filter.mpr ⟨List.mem_of_getElem? h, g⟩
theorem lw_all_tbl {w : Cond} (h : w ∈ lw_all) : w ∈ lw_tbl := (List.mem_filter.mp h).1
theorem lw_self : GoodIn lw_all lw_all := fun w h => ⟨h, good_of_word (List.mem_filter.mp h).2⟩
/-- a class's field words, by their places -/
theorem lw_in (ws : List Cond) (ps : List Nat) (hp : ws = ps.filterMap (fun i => lw_tbl[i]?)) (hg : ws.all goodWord = true) : ∀ w ∈ ws, w ∈ lw_all := by
  intro w h
  have h1 := List.all_eq_true.mp hg w h
  rw [hp] at h
  obtain ⟨i, -, hi⟩ := List.mem_filterMap.mp h
  exact lw_w i hi h1
/-- the words of a contract for the method y with code b, L locals, answer r -/
abbrev ws_ (y : MethodName) (b : ByteArray) (L : Nat) (r : Option FieldType) : List Cond := Cond.code y b L r :: lw_all
theorem lw_meth {y : MethodName} {b : ByteArray} {L : Nat} {r : Option FieldType} (h : Cond.code y b L r ∈ lw_all) : GoodIn lw_all (ws_ y b L r) := by
  intro w hw
  rcases List.mem_cons.mp hw with e | e
  · rw [e]
    exact lw_self _ h
  · exact lw_self _ e
theorem lw_app {a c : List Cond} (ha : ∀ w ∈ a, w ∈ lw_all) (hc : GoodIn lw_all c) : GoodIn lw_all (a ++ c) := by
  intro w hw
  rcases List.mem_append.mp hw with e | e
  · exact lw_self w (ha w e)
  · exact hc w e
/-- what a call through an object asks: cwV n hts (lw_V ..) -/
theorem lw_V {own : String} {idx : Nat} {C : String} {y : MethodName} {b : ByteArray} {L : Nat} {r : Option FieldType} (h1 : Cond.methodLink own idx y ∈ lw_all) (h2 : Cond.instanceMethod y ∈ lw_all) (h3 : Cond.selects C y y ∈ lw_all) (h4 : Cond.initialized C ∈ lw_all) (h5 : Cond.code y b L r ∈ lw_all) : GoodIn lw_all (wsV own idx C y (ws_ y b L r)) := by
  refine lw_app ?_ (lw_meth h5)
  intro w hw
  simp only [List.mem_cons, List.not_mem_nil, or_false] at hw
  rcases hw with e | e | e | e
  · rw [e]; exact h1
  · rw [e]; exact h2
  · rw [e]; exact h3
  · rw [e]; exact h4
/-- what a static call asks: va_cwS n hts (lw_S ..) -/
theorem lw_S {own : String} {idx : Nat} {y : MethodName} {b : ByteArray} {L : Nat} {r : Option FieldType} (h1 : Cond.methodLink own idx y ∈ lw_all) (h2 : Cond.static y ∈ lw_all) (h3 : Cond.initialized y.cls ∈ lw_all) (h4 : Cond.code y b L r ∈ lw_all) : GoodIn lw_all (va_wsS own idx y (ws_ y b L r)) := by
  refine lw_app ?_ (lw_meth h4)
  intro w hw
  simp only [List.mem_cons, List.not_mem_nil, or_false] at hw
  rcases hw with e | e | e
  · rw [e]; exact h1
  · rw [e]; exact h2
  · rw [e]; exact h3
/-- the words of a contract for a method WITH HANDLERS (hh: its table) -/
abbrev wsW_ (y : MethodName) (b : ByteArray) (L : Nat) (r : Option FieldType) (hh : List (Nat × Nat × Nat × Nat)) : List Cond := Cond.codeWith y b L r hh :: lw_all
theorem lw_methW {y : MethodName} {b : ByteArray} {L : Nat} {r : Option FieldType} {hh : List (Nat × Nat × Nat × Nat)} (h : Cond.codeWith y b L r hh ∈ lw_all) : GoodIn lw_all (wsW_ y b L r hh) := by
  intro w hw
  rcases List.mem_cons.mp hw with e | e
  · rw [e]
    exact lw_self _ h
  · exact lw_self _ e
/-- any list of words by their places (lw_in), good -/
theorem lw_good {ws : List Cond} (h : ∀ w ∈ ws, w ∈ lw_all) : GoodIn lw_all ws := fun w hw => lw_self w (h w hw)
/-- what a call of a method with handlers asks: vx_cwVW n hts (lw_VW ..), vx_cwSW n hts (lw_SW ..) -/
theorem lw_VW {own : String} {idx : Nat} {C : String} {y : MethodName} {b : ByteArray} {L : Nat} {r : Option FieldType} {hh : List (Nat × Nat × Nat × Nat)} (h1 : Cond.methodLink own idx y ∈ lw_all) (h2 : Cond.instanceMethod y ∈ lw_all) (h3 : Cond.selects C y y ∈ lw_all) (h4 : Cond.initialized C ∈ lw_all) (h5 : Cond.codeWith y b L r hh ∈ lw_all) : GoodIn lw_all (wsV own idx C y (wsW_ y b L r hh)) := by
  refine lw_app ?_ (lw_methW h5)
  intro w hw
  simp only [List.mem_cons, List.not_mem_nil, or_false] at hw
  rcases hw with e | e | e | e
  · rw [e]; exact h1
  · rw [e]; exact h2
  · rw [e]; exact h3
  · rw [e]; exact h4
theorem lw_SW {own : String} {idx : Nat} {y : MethodName} {b : ByteArray} {L : Nat} {r : Option FieldType} {hh : List (Nat × Nat × Nat × Nat)} (h1 : Cond.methodLink own idx y ∈ lw_all) (h2 : Cond.static y ∈ lw_all) (h3 : Cond.initialized y.cls ∈ lw_all) (h4 : Cond.codeWith y b L r hh ∈ lw_all) : GoodIn lw_all (va_wsS own idx y (wsW_ y b L r hh)) := by
  refine lw_app ?_ (lw_methW h4)
  intro w hw
  simp only [List.mem_cons, List.not_mem_nil, or_false] at hw
  rcases hw with e | e | e
  · rw [e]; exact h1
  · rw [e]; exact h2
  · rw [e]; exact h3
/-- a word by its place in its run of the tables -/
theorem lw_at {r : List Cond} (hr : ∀ w ∈ r, w ∈ lw_tbl) {w : Cond} (i : Nat) (h : r[i]? = some w) : w ∈ lw_tbl := hr w (List.mem_of_getElem? h)
theorem lw_g {w : Cond} (h : w ∈ lw_tbl) (g : goodWord w = true) : w ∈ lw_all := List.mem_filter.mpr ⟨h, g⟩
theorem lw_ms : ∀ w ∈ k2_sels lw_privs, w ∈ lw_tbl := fun w h => show w ∈ k2_sels lw_privs ++ tables_1 from List.mem_append_left _ h
theorem lw_m1 : ∀ w ∈ tables_1_1, w ∈ lw_tbl := fun w h => show w ∈ k2_sels lw_privs ++ tables_1 from List.mem_append_right (k2_sels lw_privs) (show w ∈ tables_1 from List.mem_append_left _ h)
theorem lw_m2 : ∀ w ∈ tables_1_2, w ∈ lw_tbl := fun w h => show w ∈ k2_sels lw_privs ++ tables_1 from List.mem_append_right (k2_sels lw_privs) (show w ∈ tables_1 from List.mem_append_right _ h)
theorem qs0 : (Cond.selects "TreeCodes" ⟨"TreeCodes", "refresh", "(I)V"⟩ ⟨"TreeCodes", "refresh", "(I)V"⟩) ∈ lw_all := lw_g (lw_at lw_ms 0 rfl) rfl
theorem qs1 : (Cond.selects "TreeCodes" ⟨"TreeCodes", "opensAt", "(I)Z"⟩ ⟨"TreeCodes", "opensAt", "(I)Z"⟩) ∈ lw_all := lw_g (lw_at lw_ms 1 rfl) rfl
theorem qs2 : (Cond.selects "TreeCodes" ⟨"TreeCodes", "opensBefore", "(I)I"⟩ ⟨"TreeCodes", "opensBefore", "(I)I"⟩) ∈ lw_all := lw_g (lw_at lw_ms 2 rfl) rfl
theorem qs3 : (Cond.selects "TreeCodes" ⟨"TreeCodes", "levelBefore", "(I)I"⟩ ⟨"TreeCodes", "levelBefore", "(I)I"⟩) ∈ lw_all := lw_g (lw_at lw_ms 3 rfl) rfl
theorem qs4 : (Cond.selects "TreeCodes" ⟨"TreeCodes", "backTo", "(II)I"⟩ ⟨"TreeCodes", "backTo", "(II)I"⟩) ∈ lw_all := lw_g (lw_at lw_ms 4 rfl) rfl
theorem qs5 : (Cond.selects "TreeCodes" ⟨"TreeCodes", "isNode", "(I)Z"⟩ ⟨"TreeCodes", "isNode", "(I)Z"⟩) ∈ lw_all := lw_g (lw_at lw_ms 5 rfl) rfl
theorem qs6 : (Cond.selects "TreeCodes" ⟨"TreeCodes", "placeOf", "(I)I"⟩ ⟨"TreeCodes", "placeOf", "(I)I"⟩) ∈ lw_all := lw_g (lw_at lw_ms 6 rfl) rfl
theorem qs7 : (Cond.selects "TreeCodes" ⟨"TreeCodes", "endOf", "(I)I"⟩ ⟨"TreeCodes", "endOf", "(I)I"⟩) ∈ lw_all := lw_g (lw_at lw_ms 7 rfl) rfl
theorem qs8 : (Cond.selects "TreeCodes" ⟨"TreeCodes", "forwardTo", "(II)I"⟩ ⟨"TreeCodes", "forwardTo", "(II)I"⟩) ∈ lw_all := lw_g (lw_at lw_ms 8 rfl) rfl
theorem qs9 : (Cond.selects "TreeCodes" ⟨"TreeCodes", "nodeAt", "(I)I"⟩ ⟨"TreeCodes", "nodeAt", "(I)I"⟩) ∈ lw_all := lw_g (lw_at lw_ms 9 rfl) rfl
theorem qs10 : (Cond.selects "TreeCodes" ⟨"TreeCodes", "leastBetween", "(II)I"⟩ ⟨"TreeCodes", "leastBetween", "(II)I"⟩) ∈ lw_all := lw_g (lw_at lw_ms 10 rfl) rfl
theorem qs11 : (Cond.selects "TreeCodesModel" ⟨"TreeCodesModel", "work", "()V"⟩ ⟨"TreeCodesModel", "work", "()V"⟩) ∈ lw_all := lw_g (lw_at lw_ms 11 rfl) rfl
theorem qs12 : (Cond.selects "TreeCodesModel" ⟨"TreeCodesModel", "node", "(I)Z"⟩ ⟨"TreeCodesModel", "node", "(I)Z"⟩) ∈ lw_all := lw_g (lw_at lw_ms 12 rfl) rfl
theorem qs13 : (Cond.selects "TreeCodesModel" ⟨"TreeCodesModel", "under", "(II)Z"⟩ ⟨"TreeCodesModel", "under", "(II)Z"⟩) ∈ lw_all := lw_g (lw_at lw_ms 13 rfl) rfl
theorem qs14 : (Cond.selects "TreeCodesModel" ⟨"TreeCodesModel", "childrenOf", "(I)I"⟩ ⟨"TreeCodesModel", "childrenOf", "(I)I"⟩) ∈ lw_all := lw_g (lw_at lw_ms 14 rfl) rfl
end
section
/-! TreeCodes -/
set_option maxRecDepth 100000
def RX0 : String := "TreeCodes"
def TX0 : u_T := fun k => match k with
  | 0 => ("TreeCodes", "word", "J", false)
  | 1 => ("TreeCodes", "count", "I", false)
  | 2 => ("TreeCodes", "opens", "[B", true)
  | 3 => ("TreeCodes", "rise", "[B", true)
  | 4 => ("TreeCodes", "least", "[B", true)
  | _ => ("TreeCodes", "most", "[B", true)
def tyX0 : Nat → FieldType := fun k => match k with
  | 0 => .long
  | 1 => .int
  | 2 => .array .byte
  | 3 => .array .byte
  | 4 => .array .byte
  | _ => .array .byte
abbrev wsX00 : List Cond := u_ws RX0 TX0 6
theorem nmX0 : ∀ a, a < 6 → ∀ b, b < 6 → a ≠ b → (TX0 a).2.1 ≠ (TX0 b).2.1 := by decide +kernel
theorem tyX0_ok : ∀ k, k < 6 → parseFieldDescriptor (TX0 k).2.2.1 = some (tyX0 k) := by decide +kernel
abbrev cX0_init : ByteArray := prog_1_method_1_code
def yX0_init : MethodName := ⟨RX0, "<init>", "()V"⟩
theorem dX0_init_0 : decode cX0_init 0 = .ok (.aload_n 0, 1) := by decide +kernel
theorem dX0_init_1 : decode cX0_init 1 = .ok (.invokespecial 1, 3) := by decide +kernel
theorem dX0_init_4 : decode cX0_init 4 = .ok (.aload_n 0, 1) := by decide +kernel
theorem dX0_init_5 : decode cX0_init 5 = .ok (.bipush 8, 2) := by decide +kernel
theorem dX0_init_7 : decode cX0_init 7 = .ok (.newarray .byte, 2) := by decide +kernel
theorem dX0_init_9 : decode cX0_init 9 = .ok (.putfield 7, 3) := by decide +kernel
theorem dX0_init_12 : decode cX0_init 12 = .ok (.aload_n 0, 1) := by decide +kernel
theorem dX0_init_13 : decode cX0_init 13 = .ok (.bipush 8, 2) := by decide +kernel
theorem dX0_init_15 : decode cX0_init 15 = .ok (.newarray .byte, 2) := by decide +kernel
theorem dX0_init_17 : decode cX0_init 17 = .ok (.putfield 13, 3) := by decide +kernel
theorem dX0_init_20 : decode cX0_init 20 = .ok (.aload_n 0, 1) := by decide +kernel
theorem dX0_init_21 : decode cX0_init 21 = .ok (.bipush 8, 2) := by decide +kernel
theorem dX0_init_23 : decode cX0_init 23 = .ok (.newarray .byte, 2) := by decide +kernel
theorem dX0_init_25 : decode cX0_init 25 = .ok (.putfield 16, 3) := by decide +kernel
theorem dX0_init_28 : decode cX0_init 28 = .ok (.aload_n 0, 1) := by decide +kernel
theorem dX0_init_29 : decode cX0_init 29 = .ok (.bipush 8, 2) := by decide +kernel
theorem dX0_init_31 : decode cX0_init 31 = .ok (.newarray .byte, 2) := by decide +kernel
theorem dX0_init_33 : decode cX0_init 33 = .ok (.putfield 19, 3) := by decide +kernel
theorem dX0_init_36 : decode cX0_init 36 = .ok (.return_, 1) := by decide +kernel
abbrev cX0_open : ByteArray := prog_1_method_4_code
def yX0_open : MethodName := ⟨RX0, "open", "()I"⟩
theorem dX0_open_0 : decode cX0_open 0 = .ok (.aload_n 0, 1) := by decide +kernel
theorem dX0_open_1 : decode cX0_open 1 = .ok (.getfield 26, 3) := by decide +kernel
theorem dX0_open_4 : decode cX0_open 4 = .ok (.bipush 64, 2) := by decide +kernel
theorem dX0_open_6 : decode cX0_open 6 = .ok (.if_icmp .lt 6, 3) := by decide +kernel
theorem dX0_open_9 : decode cX0_open 9 = .ok (.bipush (-2), 2) := by decide +kernel
theorem dX0_open_11 : decode cX0_open 11 = .ok (.ireturn, 1) := by decide +kernel
theorem dX0_open_12 : decode cX0_open 12 = .ok (.aload_n 0, 1) := by decide +kernel
theorem dX0_open_13 : decode cX0_open 13 = .ok (.dup, 1) := by decide +kernel
theorem dX0_open_14 : decode cX0_open 14 = .ok (.getfield 22, 3) := by decide +kernel
theorem dX0_open_17 : decode cX0_open 17 = .ok (.lconst 1, 1) := by decide +kernel
theorem dX0_open_18 : decode cX0_open 18 = .ok (.aload_n 0, 1) := by decide +kernel
theorem dX0_open_19 : decode cX0_open 19 = .ok (.getfield 26, 3) := by decide +kernel
theorem dX0_open_22 : decode cX0_open 22 = .ok (.lshl, 1) := by decide +kernel
theorem dX0_open_23 : decode cX0_open 23 = .ok (.lor, 1) := by decide +kernel
theorem dX0_open_24 : decode cX0_open 24 = .ok (.putfield 22, 3) := by decide +kernel
theorem dX0_open_27 : decode cX0_open 27 = .ok (.aload_n 0, 1) := by decide +kernel
theorem dX0_open_28 : decode cX0_open 28 = .ok (.dup, 1) := by decide +kernel
theorem dX0_open_29 : decode cX0_open 29 = .ok (.getfield 26, 3) := by decide +kernel
theorem dX0_open_32 : decode cX0_open 32 = .ok (.iconst 1, 1) := by decide +kernel
theorem dX0_open_33 : decode cX0_open 33 = .ok (.iadd, 1) := by decide +kernel
theorem dX0_open_34 : decode cX0_open 34 = .ok (.putfield 26, 3) := by decide +kernel
theorem dX0_open_37 : decode cX0_open 37 = .ok (.aload_n 0, 1) := by decide +kernel
theorem dX0_open_38 : decode cX0_open 38 = .ok (.aload_n 0, 1) := by decide +kernel
theorem dX0_open_39 : decode cX0_open 39 = .ok (.getfield 26, 3) := by decide +kernel
theorem dX0_open_42 : decode cX0_open 42 = .ok (.iconst 1, 1) := by decide +kernel
theorem dX0_open_43 : decode cX0_open 43 = .ok (.isub, 1) := by decide +kernel
theorem dX0_open_44 : decode cX0_open 44 = .ok (.invokevirtual 34, 3) := by decide +kernel
theorem dX0_open_47 : decode cX0_open 47 = .ok (.aload_n 0, 1) := by decide +kernel
theorem dX0_open_48 : decode cX0_open 48 = .ok (.invokevirtual 38, 3) := by decide +kernel
theorem dX0_open_51 : decode cX0_open 51 = .ok (.iconst 1, 1) := by decide +kernel
theorem dX0_open_52 : decode cX0_open 52 = .ok (.isub, 1) := by decide +kernel
theorem dX0_open_53 : decode cX0_open 53 = .ok (.ireturn, 1) := by decide +kernel
abbrev cX0_refresh : ByteArray := prog_1_method_3_code
def yX0_refresh : MethodName := ⟨RX0, "refresh", "(I)V"⟩
theorem dX0_refresh_0 : decode cX0_refresh 0 = .ok (.iload_n 1, 1) := by decide +kernel
theorem dX0_refresh_1 : decode cX0_refresh 1 = .ok (.bipush 8, 2) := by decide +kernel
theorem dX0_refresh_3 : decode cX0_refresh 3 = .ok (.idiv, 1) := by decide +kernel
theorem dX0_refresh_4 : decode cX0_refresh 4 = .ok (.istore_n 2, 1) := by decide +kernel
theorem dX0_refresh_5 : decode cX0_refresh 5 = .ok (.iconst 0, 1) := by decide +kernel
theorem dX0_refresh_6 : decode cX0_refresh 6 = .ok (.istore_n 3, 1) := by decide +kernel
theorem dX0_refresh_7 : decode cX0_refresh 7 = .ok (.iconst 0, 1) := by decide +kernel
theorem dX0_refresh_8 : decode cX0_refresh 8 = .ok (.istore 4, 2) := by decide +kernel
theorem dX0_refresh_10 : decode cX0_refresh 10 = .ok (.bipush 8, 2) := by decide +kernel
theorem dX0_refresh_12 : decode cX0_refresh 12 = .ok (.istore 5, 2) := by decide +kernel
theorem dX0_refresh_14 : decode cX0_refresh 14 = .ok (.bipush (-8), 2) := by decide +kernel
theorem dX0_refresh_16 : decode cX0_refresh 16 = .ok (.istore 6, 2) := by decide +kernel
theorem dX0_refresh_18 : decode cX0_refresh 18 = .ok (.iload_n 2, 1) := by decide +kernel
theorem dX0_refresh_19 : decode cX0_refresh 19 = .ok (.bipush 8, 2) := by decide +kernel
theorem dX0_refresh_21 : decode cX0_refresh 21 = .ok (.imul, 1) := by decide +kernel
theorem dX0_refresh_22 : decode cX0_refresh 22 = .ok (.istore 7, 2) := by decide +kernel
theorem dX0_refresh_24 : decode cX0_refresh 24 = .ok (.iload 7, 2) := by decide +kernel
theorem dX0_refresh_26 : decode cX0_refresh 26 = .ok (.iload_n 2, 1) := by decide +kernel
theorem dX0_refresh_27 : decode cX0_refresh 27 = .ok (.bipush 8, 2) := by decide +kernel
theorem dX0_refresh_29 : decode cX0_refresh 29 = .ok (.imul, 1) := by decide +kernel
theorem dX0_refresh_30 : decode cX0_refresh 30 = .ok (.bipush 8, 2) := by decide +kernel
theorem dX0_refresh_32 : decode cX0_refresh 32 = .ok (.iadd, 1) := by decide +kernel
theorem dX0_refresh_33 : decode cX0_refresh 33 = .ok (.if_icmp .ge 82, 3) := by decide +kernel
theorem dX0_refresh_36 : decode cX0_refresh 36 = .ok (.iload 7, 2) := by decide +kernel
theorem dX0_refresh_38 : decode cX0_refresh 38 = .ok (.aload_n 0, 1) := by decide +kernel
theorem dX0_refresh_39 : decode cX0_refresh 39 = .ok (.getfield 26, 3) := by decide +kernel
theorem dX0_refresh_42 : decode cX0_refresh 42 = .ok (.if_icmp .ge 73, 3) := by decide +kernel
theorem dX0_refresh_45 : decode cX0_refresh 45 = .ok (.iload_n 3, 1) := by decide +kernel
theorem dX0_refresh_46 : decode cX0_refresh 46 = .ok (.aload_n 0, 1) := by decide +kernel
theorem dX0_refresh_47 : decode cX0_refresh 47 = .ok (.iload 7, 2) := by decide +kernel
theorem dX0_refresh_49 : decode cX0_refresh 49 = .ok (.invokevirtual 30, 3) := by decide +kernel
theorem dX0_refresh_52 : decode cX0_refresh 52 = .ok (.ifCond .eq 7, 3) := by decide +kernel
theorem dX0_refresh_55 : decode cX0_refresh 55 = .ok (.iconst 1, 1) := by decide +kernel
theorem dX0_refresh_56 : decode cX0_refresh 56 = .ok (.goto 4, 3) := by decide +kernel
theorem dX0_refresh_59 : decode cX0_refresh 59 = .ok (.iconst (-1), 1) := by decide +kernel
theorem dX0_refresh_60 : decode cX0_refresh 60 = .ok (.iadd, 1) := by decide +kernel
theorem dX0_refresh_61 : decode cX0_refresh 61 = .ok (.istore_n 3, 1) := by decide +kernel
theorem dX0_refresh_62 : decode cX0_refresh 62 = .ok (.iload 4, 2) := by decide +kernel
theorem dX0_refresh_64 : decode cX0_refresh 64 = .ok (.aload_n 0, 1) := by decide +kernel
theorem dX0_refresh_65 : decode cX0_refresh 65 = .ok (.iload 7, 2) := by decide +kernel
theorem dX0_refresh_67 : decode cX0_refresh 67 = .ok (.invokevirtual 30, 3) := by decide +kernel
theorem dX0_refresh_70 : decode cX0_refresh 70 = .ok (.ifCond .eq 7, 3) := by decide +kernel
theorem dX0_refresh_73 : decode cX0_refresh 73 = .ok (.iconst 1, 1) := by decide +kernel
theorem dX0_refresh_74 : decode cX0_refresh 74 = .ok (.goto 4, 3) := by decide +kernel
theorem dX0_refresh_77 : decode cX0_refresh 77 = .ok (.iconst 0, 1) := by decide +kernel
theorem dX0_refresh_78 : decode cX0_refresh 78 = .ok (.iadd, 1) := by decide +kernel
theorem dX0_refresh_79 : decode cX0_refresh 79 = .ok (.istore 4, 2) := by decide +kernel
theorem dX0_refresh_81 : decode cX0_refresh 81 = .ok (.iload_n 3, 1) := by decide +kernel
theorem dX0_refresh_82 : decode cX0_refresh 82 = .ok (.iload 5, 2) := by decide +kernel
theorem dX0_refresh_84 : decode cX0_refresh 84 = .ok (.if_icmp .ge 7, 3) := by decide +kernel
theorem dX0_refresh_87 : decode cX0_refresh 87 = .ok (.iload_n 3, 1) := by decide +kernel
theorem dX0_refresh_88 : decode cX0_refresh 88 = .ok (.goto 5, 3) := by decide +kernel
theorem dX0_refresh_91 : decode cX0_refresh 91 = .ok (.iload 5, 2) := by decide +kernel
theorem dX0_refresh_93 : decode cX0_refresh 93 = .ok (.istore 5, 2) := by decide +kernel
theorem dX0_refresh_95 : decode cX0_refresh 95 = .ok (.iload_n 3, 1) := by decide +kernel
theorem dX0_refresh_96 : decode cX0_refresh 96 = .ok (.iload 6, 2) := by decide +kernel
theorem dX0_refresh_98 : decode cX0_refresh 98 = .ok (.if_icmp .le 7, 3) := by decide +kernel
theorem dX0_refresh_101 : decode cX0_refresh 101 = .ok (.iload_n 3, 1) := by decide +kernel
theorem dX0_refresh_102 : decode cX0_refresh 102 = .ok (.goto 5, 3) := by decide +kernel
theorem dX0_refresh_105 : decode cX0_refresh 105 = .ok (.iload 6, 2) := by decide +kernel
theorem dX0_refresh_107 : decode cX0_refresh 107 = .ok (.istore 6, 2) := by decide +kernel
theorem dX0_refresh_109 : decode cX0_refresh 109 = .ok (.iinc 7 1, 3) := by decide +kernel
theorem dX0_refresh_112 : decode cX0_refresh 112 = .ok (.goto (-88), 3) := by decide +kernel
theorem dX0_refresh_115 : decode cX0_refresh 115 = .ok (.aload_n 0, 1) := by decide +kernel
theorem dX0_refresh_116 : decode cX0_refresh 116 = .ok (.getfield 7, 3) := by decide +kernel
theorem dX0_refresh_119 : decode cX0_refresh 119 = .ok (.iload_n 2, 1) := by decide +kernel
theorem dX0_refresh_120 : decode cX0_refresh 120 = .ok (.iload 4, 2) := by decide +kernel
theorem dX0_refresh_122 : decode cX0_refresh 122 = .ok (.i2b, 1) := by decide +kernel
theorem dX0_refresh_123 : decode cX0_refresh 123 = .ok (.bastore, 1) := by decide +kernel
theorem dX0_refresh_124 : decode cX0_refresh 124 = .ok (.aload_n 0, 1) := by decide +kernel
theorem dX0_refresh_125 : decode cX0_refresh 125 = .ok (.getfield 13, 3) := by decide +kernel
theorem dX0_refresh_128 : decode cX0_refresh 128 = .ok (.iload_n 2, 1) := by decide +kernel
theorem dX0_refresh_129 : decode cX0_refresh 129 = .ok (.iload_n 3, 1) := by decide +kernel
theorem dX0_refresh_130 : decode cX0_refresh 130 = .ok (.i2b, 1) := by decide +kernel
theorem dX0_refresh_131 : decode cX0_refresh 131 = .ok (.bastore, 1) := by decide +kernel
theorem dX0_refresh_132 : decode cX0_refresh 132 = .ok (.aload_n 0, 1) := by decide +kernel
theorem dX0_refresh_133 : decode cX0_refresh 133 = .ok (.getfield 16, 3) := by decide +kernel
theorem dX0_refresh_136 : decode cX0_refresh 136 = .ok (.iload_n 2, 1) := by decide +kernel
theorem dX0_refresh_137 : decode cX0_refresh 137 = .ok (.iload 5, 2) := by decide +kernel
theorem dX0_refresh_139 : decode cX0_refresh 139 = .ok (.i2b, 1) := by decide +kernel
theorem dX0_refresh_140 : decode cX0_refresh 140 = .ok (.bastore, 1) := by decide +kernel
theorem dX0_refresh_141 : decode cX0_refresh 141 = .ok (.aload_n 0, 1) := by decide +kernel
theorem dX0_refresh_142 : decode cX0_refresh 142 = .ok (.getfield 19, 3) := by decide +kernel
theorem dX0_refresh_145 : decode cX0_refresh 145 = .ok (.iload_n 2, 1) := by decide +kernel
theorem dX0_refresh_146 : decode cX0_refresh 146 = .ok (.iload 6, 2) := by decide +kernel
theorem dX0_refresh_148 : decode cX0_refresh 148 = .ok (.i2b, 1) := by decide +kernel
theorem dX0_refresh_149 : decode cX0_refresh 149 = .ok (.bastore, 1) := by decide +kernel
theorem dX0_refresh_150 : decode cX0_refresh 150 = .ok (.return_, 1) := by decide +kernel
abbrev cX0_opensAt : ByteArray := prog_1_method_2_code
def yX0_opensAt : MethodName := ⟨RX0, "opensAt", "(I)Z"⟩
theorem dX0_opensAt_0 : decode cX0_opensAt 0 = .ok (.aload_n 0, 1) := by decide +kernel
theorem dX0_opensAt_1 : decode cX0_opensAt 1 = .ok (.getfield 22, 3) := by decide +kernel
theorem dX0_opensAt_4 : decode cX0_opensAt 4 = .ok (.iload_n 1, 1) := by decide +kernel
theorem dX0_opensAt_5 : decode cX0_opensAt 5 = .ok (.lushr, 1) := by decide +kernel
theorem dX0_opensAt_6 : decode cX0_opensAt 6 = .ok (.lconst 1, 1) := by decide +kernel
theorem dX0_opensAt_7 : decode cX0_opensAt 7 = .ok (.land, 1) := by decide +kernel
theorem dX0_opensAt_8 : decode cX0_opensAt 8 = .ok (.lconst 0, 1) := by decide +kernel
theorem dX0_opensAt_9 : decode cX0_opensAt 9 = .ok (.lcmp, 1) := by decide +kernel
theorem dX0_opensAt_10 : decode cX0_opensAt 10 = .ok (.ifCond .eq 7, 3) := by decide +kernel
theorem dX0_opensAt_13 : decode cX0_opensAt 13 = .ok (.iconst 1, 1) := by decide +kernel
theorem dX0_opensAt_14 : decode cX0_opensAt 14 = .ok (.goto 4, 3) := by decide +kernel
theorem dX0_opensAt_17 : decode cX0_opensAt 17 = .ok (.iconst 0, 1) := by decide +kernel
theorem dX0_opensAt_18 : decode cX0_opensAt 18 = .ok (.ireturn, 1) := by decide +kernel
abbrev cX0_nodes : ByteArray := prog_1_method_8_code
def yX0_nodes : MethodName := ⟨RX0, "nodes", "()I"⟩
theorem dX0_nodes_0 : decode cX0_nodes 0 = .ok (.aload_n 0, 1) := by decide +kernel
theorem dX0_nodes_1 : decode cX0_nodes 1 = .ok (.aload_n 0, 1) := by decide +kernel
theorem dX0_nodes_2 : decode cX0_nodes 2 = .ok (.getfield 26, 3) := by decide +kernel
theorem dX0_nodes_5 : decode cX0_nodes 5 = .ok (.invokevirtual 51, 3) := by decide +kernel
theorem dX0_nodes_8 : decode cX0_nodes 8 = .ok (.ireturn, 1) := by decide +kernel
abbrev cX0_opensBefore : ByteArray := prog_1_method_7_code
def yX0_opensBefore : MethodName := ⟨RX0, "opensBefore", "(I)I"⟩
theorem dX0_opensBefore_0 : decode cX0_opensBefore 0 = .ok (.iload_n 1, 1) := by decide +kernel
theorem dX0_opensBefore_1 : decode cX0_opensBefore 1 = .ok (.bipush 8, 2) := by decide +kernel
theorem dX0_opensBefore_3 : decode cX0_opensBefore 3 = .ok (.idiv, 1) := by decide +kernel
theorem dX0_opensBefore_4 : decode cX0_opensBefore 4 = .ok (.istore_n 2, 1) := by decide +kernel
theorem dX0_opensBefore_5 : decode cX0_opensBefore 5 = .ok (.iconst 0, 1) := by decide +kernel
theorem dX0_opensBefore_6 : decode cX0_opensBefore 6 = .ok (.istore_n 3, 1) := by decide +kernel
theorem dX0_opensBefore_7 : decode cX0_opensBefore 7 = .ok (.iconst 0, 1) := by decide +kernel
theorem dX0_opensBefore_8 : decode cX0_opensBefore 8 = .ok (.istore 4, 2) := by decide +kernel
theorem dX0_opensBefore_10 : decode cX0_opensBefore 10 = .ok (.iload 4, 2) := by decide +kernel
theorem dX0_opensBefore_12 : decode cX0_opensBefore 12 = .ok (.iload_n 2, 1) := by decide +kernel
theorem dX0_opensBefore_13 : decode cX0_opensBefore 13 = .ok (.if_icmp .ge 19, 3) := by decide +kernel
theorem dX0_opensBefore_16 : decode cX0_opensBefore 16 = .ok (.iload_n 3, 1) := by decide +kernel
theorem dX0_opensBefore_17 : decode cX0_opensBefore 17 = .ok (.aload_n 0, 1) := by decide +kernel
theorem dX0_opensBefore_18 : decode cX0_opensBefore 18 = .ok (.getfield 7, 3) := by decide +kernel
theorem dX0_opensBefore_21 : decode cX0_opensBefore 21 = .ok (.iload 4, 2) := by decide +kernel
theorem dX0_opensBefore_23 : decode cX0_opensBefore 23 = .ok (.baload, 1) := by decide +kernel
theorem dX0_opensBefore_24 : decode cX0_opensBefore 24 = .ok (.iadd, 1) := by decide +kernel
theorem dX0_opensBefore_25 : decode cX0_opensBefore 25 = .ok (.istore_n 3, 1) := by decide +kernel
theorem dX0_opensBefore_26 : decode cX0_opensBefore 26 = .ok (.iinc 4 1, 3) := by decide +kernel
theorem dX0_opensBefore_29 : decode cX0_opensBefore 29 = .ok (.goto (-19), 3) := by decide +kernel
theorem dX0_opensBefore_32 : decode cX0_opensBefore 32 = .ok (.iload_n 2, 1) := by decide +kernel
theorem dX0_opensBefore_33 : decode cX0_opensBefore 33 = .ok (.bipush 8, 2) := by decide +kernel
theorem dX0_opensBefore_35 : decode cX0_opensBefore 35 = .ok (.imul, 1) := by decide +kernel
theorem dX0_opensBefore_36 : decode cX0_opensBefore 36 = .ok (.istore 4, 2) := by decide +kernel
theorem dX0_opensBefore_38 : decode cX0_opensBefore 38 = .ok (.iload 4, 2) := by decide +kernel
theorem dX0_opensBefore_40 : decode cX0_opensBefore 40 = .ok (.iload_n 1, 1) := by decide +kernel
theorem dX0_opensBefore_41 : decode cX0_opensBefore 41 = .ok (.if_icmp .ge 26, 3) := by decide +kernel
theorem dX0_opensBefore_44 : decode cX0_opensBefore 44 = .ok (.iload_n 3, 1) := by decide +kernel
theorem dX0_opensBefore_45 : decode cX0_opensBefore 45 = .ok (.aload_n 0, 1) := by decide +kernel
theorem dX0_opensBefore_46 : decode cX0_opensBefore 46 = .ok (.iload 4, 2) := by decide +kernel
theorem dX0_opensBefore_48 : decode cX0_opensBefore 48 = .ok (.invokevirtual 30, 3) := by decide +kernel
theorem dX0_opensBefore_51 : decode cX0_opensBefore 51 = .ok (.ifCond .eq 7, 3) := by decide +kernel
theorem dX0_opensBefore_54 : decode cX0_opensBefore 54 = .ok (.iconst 1, 1) := by decide +kernel
theorem dX0_opensBefore_55 : decode cX0_opensBefore 55 = .ok (.goto 4, 3) := by decide +kernel
theorem dX0_opensBefore_58 : decode cX0_opensBefore 58 = .ok (.iconst 0, 1) := by decide +kernel
theorem dX0_opensBefore_59 : decode cX0_opensBefore 59 = .ok (.iadd, 1) := by decide +kernel
theorem dX0_opensBefore_60 : decode cX0_opensBefore 60 = .ok (.istore_n 3, 1) := by decide +kernel
theorem dX0_opensBefore_61 : decode cX0_opensBefore 61 = .ok (.iinc 4 1, 3) := by decide +kernel
theorem dX0_opensBefore_64 : decode cX0_opensBefore 64 = .ok (.goto (-26), 3) := by decide +kernel
theorem dX0_opensBefore_67 : decode cX0_opensBefore 67 = .ok (.iload_n 3, 1) := by decide +kernel
theorem dX0_opensBefore_68 : decode cX0_opensBefore 68 = .ok (.ireturn, 1) := by decide +kernel
abbrev cX0_close : ByteArray := prog_1_method_5_code
def yX0_close : MethodName := ⟨RX0, "close", "()I"⟩
theorem dX0_close_0 : decode cX0_close 0 = .ok (.aload_n 0, 1) := by decide +kernel
theorem dX0_close_1 : decode cX0_close 1 = .ok (.invokevirtual 42, 3) := by decide +kernel
theorem dX0_close_4 : decode cX0_close 4 = .ok (.ifCond .ne 5, 3) := by decide +kernel
theorem dX0_close_7 : decode cX0_close 7 = .ok (.iconst (-1), 1) := by decide +kernel
theorem dX0_close_8 : decode cX0_close 8 = .ok (.ireturn, 1) := by decide +kernel
theorem dX0_close_9 : decode cX0_close 9 = .ok (.aload_n 0, 1) := by decide +kernel
theorem dX0_close_10 : decode cX0_close 10 = .ok (.getfield 26, 3) := by decide +kernel
theorem dX0_close_13 : decode cX0_close 13 = .ok (.bipush 64, 2) := by decide +kernel
theorem dX0_close_15 : decode cX0_close 15 = .ok (.if_icmp .lt 6, 3) := by decide +kernel
theorem dX0_close_18 : decode cX0_close 18 = .ok (.bipush (-2), 2) := by decide +kernel
theorem dX0_close_20 : decode cX0_close 20 = .ok (.ireturn, 1) := by decide +kernel
theorem dX0_close_21 : decode cX0_close 21 = .ok (.aload_n 0, 1) := by decide +kernel
theorem dX0_close_22 : decode cX0_close 22 = .ok (.invokevirtual 42, 3) := by decide +kernel
theorem dX0_close_25 : decode cX0_close 25 = .ok (.istore_n 1, 1) := by decide +kernel
theorem dX0_close_26 : decode cX0_close 26 = .ok (.aload_n 0, 1) := by decide +kernel
theorem dX0_close_27 : decode cX0_close 27 = .ok (.aload_n 0, 1) := by decide +kernel
theorem dX0_close_28 : decode cX0_close 28 = .ok (.getfield 26, 3) := by decide +kernel
theorem dX0_close_31 : decode cX0_close 31 = .ok (.iload_n 1, 1) := by decide +kernel
theorem dX0_close_32 : decode cX0_close 32 = .ok (.iconst 1, 1) := by decide +kernel
theorem dX0_close_33 : decode cX0_close 33 = .ok (.isub, 1) := by decide +kernel
theorem dX0_close_34 : decode cX0_close 34 = .ok (.invokevirtual 45, 3) := by decide +kernel
theorem dX0_close_37 : decode cX0_close 37 = .ok (.istore_n 2, 1) := by decide +kernel
theorem dX0_close_38 : decode cX0_close 38 = .ok (.aload_n 0, 1) := by decide +kernel
theorem dX0_close_39 : decode cX0_close 39 = .ok (.dup, 1) := by decide +kernel
theorem dX0_close_40 : decode cX0_close 40 = .ok (.getfield 22, 3) := by decide +kernel
theorem dX0_close_43 : decode cX0_close 43 = .ok (.lconst 1, 1) := by decide +kernel
theorem dX0_close_44 : decode cX0_close 44 = .ok (.aload_n 0, 1) := by decide +kernel
theorem dX0_close_45 : decode cX0_close 45 = .ok (.getfield 26, 3) := by decide +kernel
theorem dX0_close_48 : decode cX0_close 48 = .ok (.lshl, 1) := by decide +kernel
theorem dX0_close_49 : decode cX0_close 49 = .ok (.ldc2_w 49, 3) := by decide +kernel
theorem dX0_close_52 : decode cX0_close 52 = .ok (.lxor, 1) := by decide +kernel
theorem dX0_close_53 : decode cX0_close 53 = .ok (.land, 1) := by decide +kernel
theorem dX0_close_54 : decode cX0_close 54 = .ok (.putfield 22, 3) := by decide +kernel
theorem dX0_close_57 : decode cX0_close 57 = .ok (.aload_n 0, 1) := by decide +kernel
theorem dX0_close_58 : decode cX0_close 58 = .ok (.dup, 1) := by decide +kernel
theorem dX0_close_59 : decode cX0_close 59 = .ok (.getfield 26, 3) := by decide +kernel
theorem dX0_close_62 : decode cX0_close 62 = .ok (.iconst 1, 1) := by decide +kernel
theorem dX0_close_63 : decode cX0_close 63 = .ok (.iadd, 1) := by decide +kernel
theorem dX0_close_64 : decode cX0_close 64 = .ok (.putfield 26, 3) := by decide +kernel
theorem dX0_close_67 : decode cX0_close 67 = .ok (.aload_n 0, 1) := by decide +kernel
theorem dX0_close_68 : decode cX0_close 68 = .ok (.aload_n 0, 1) := by decide +kernel
theorem dX0_close_69 : decode cX0_close 69 = .ok (.getfield 26, 3) := by decide +kernel
theorem dX0_close_72 : decode cX0_close 72 = .ok (.iconst 1, 1) := by decide +kernel
theorem dX0_close_73 : decode cX0_close 73 = .ok (.isub, 1) := by decide +kernel
theorem dX0_close_74 : decode cX0_close 74 = .ok (.invokevirtual 34, 3) := by decide +kernel
theorem dX0_close_77 : decode cX0_close 77 = .ok (.aload_n 0, 1) := by decide +kernel
theorem dX0_close_78 : decode cX0_close 78 = .ok (.iload_n 2, 1) := by decide +kernel
theorem dX0_close_79 : decode cX0_close 79 = .ok (.invokevirtual 51, 3) := by decide +kernel
theorem dX0_close_82 : decode cX0_close 82 = .ok (.ireturn, 1) := by decide +kernel
abbrev cX0_openNodes : ByteArray := prog_1_method_10_code
def yX0_openNodes : MethodName := ⟨RX0, "openNodes", "()I"⟩
theorem dX0_openNodes_0 : decode cX0_openNodes 0 = .ok (.aload_n 0, 1) := by decide +kernel
theorem dX0_openNodes_1 : decode cX0_openNodes 1 = .ok (.aload_n 0, 1) := by decide +kernel
theorem dX0_openNodes_2 : decode cX0_openNodes 2 = .ok (.getfield 26, 3) := by decide +kernel
theorem dX0_openNodes_5 : decode cX0_openNodes 5 = .ok (.invokevirtual 55, 3) := by decide +kernel
theorem dX0_openNodes_8 : decode cX0_openNodes 8 = .ok (.ireturn, 1) := by decide +kernel
abbrev cX0_levelBefore : ByteArray := prog_1_method_9_code
def yX0_levelBefore : MethodName := ⟨RX0, "levelBefore", "(I)I"⟩
theorem dX0_levelBefore_0 : decode cX0_levelBefore 0 = .ok (.aload_n 0, 1) := by decide +kernel
theorem dX0_levelBefore_1 : decode cX0_levelBefore 1 = .ok (.iload_n 1, 1) := by decide +kernel
theorem dX0_levelBefore_2 : decode cX0_levelBefore 2 = .ok (.invokevirtual 51, 3) := by decide +kernel
theorem dX0_levelBefore_5 : decode cX0_levelBefore 5 = .ok (.istore_n 2, 1) := by decide +kernel
theorem dX0_levelBefore_6 : decode cX0_levelBefore 6 = .ok (.iconst 2, 1) := by decide +kernel
theorem dX0_levelBefore_7 : decode cX0_levelBefore 7 = .ok (.iload_n 2, 1) := by decide +kernel
theorem dX0_levelBefore_8 : decode cX0_levelBefore 8 = .ok (.imul, 1) := by decide +kernel
theorem dX0_levelBefore_9 : decode cX0_levelBefore 9 = .ok (.iload_n 1, 1) := by decide +kernel
theorem dX0_levelBefore_10 : decode cX0_levelBefore 10 = .ok (.isub, 1) := by decide +kernel
theorem dX0_levelBefore_11 : decode cX0_levelBefore 11 = .ok (.ireturn, 1) := by decide +kernel
abbrev cX0_backTo : ByteArray := prog_1_method_14_code
def yX0_backTo : MethodName := ⟨RX0, "backTo", "(II)I"⟩
theorem dX0_backTo_0 : decode cX0_backTo 0 = .ok (.aload_n 0, 1) := by decide +kernel
theorem dX0_backTo_1 : decode cX0_backTo 1 = .ok (.iload_n 1, 1) := by decide +kernel
theorem dX0_backTo_2 : decode cX0_backTo 2 = .ok (.invokevirtual 55, 3) := by decide +kernel
theorem dX0_backTo_5 : decode cX0_backTo 5 = .ok (.istore_n 3, 1) := by decide +kernel
theorem dX0_backTo_6 : decode cX0_backTo 6 = .ok (.iload_n 1, 1) := by decide +kernel
theorem dX0_backTo_7 : decode cX0_backTo 7 = .ok (.istore 4, 2) := by decide +kernel
theorem dX0_backTo_9 : decode cX0_backTo 9 = .ok (.iload 4, 2) := by decide +kernel
theorem dX0_backTo_11 : decode cX0_backTo 11 = .ok (.ifCond .le 113, 3) := by decide +kernel
theorem dX0_backTo_14 : decode cX0_backTo 14 = .ok (.iload 4, 2) := by decide +kernel
theorem dX0_backTo_16 : decode cX0_backTo 16 = .ok (.iconst 1, 1) := by decide +kernel
theorem dX0_backTo_17 : decode cX0_backTo 17 = .ok (.isub, 1) := by decide +kernel
theorem dX0_backTo_18 : decode cX0_backTo 18 = .ok (.bipush 8, 2) := by decide +kernel
theorem dX0_backTo_20 : decode cX0_backTo 20 = .ok (.idiv, 1) := by decide +kernel
theorem dX0_backTo_21 : decode cX0_backTo 21 = .ok (.istore 5, 2) := by decide +kernel
theorem dX0_backTo_23 : decode cX0_backTo 23 = .ok (.iload 4, 2) := by decide +kernel
theorem dX0_backTo_25 : decode cX0_backTo 25 = .ok (.bipush 8, 2) := by decide +kernel
theorem dX0_backTo_27 : decode cX0_backTo 27 = .ok (.irem, 1) := by decide +kernel
theorem dX0_backTo_28 : decode cX0_backTo 28 = .ok (.ifCond .ne 41, 3) := by decide +kernel
theorem dX0_backTo_31 : decode cX0_backTo 31 = .ok (.iload_n 3, 1) := by decide +kernel
theorem dX0_backTo_32 : decode cX0_backTo 32 = .ok (.aload_n 0, 1) := by decide +kernel
theorem dX0_backTo_33 : decode cX0_backTo 33 = .ok (.getfield 13, 3) := by decide +kernel
theorem dX0_backTo_36 : decode cX0_backTo 36 = .ok (.iload 5, 2) := by decide +kernel
theorem dX0_backTo_38 : decode cX0_backTo 38 = .ok (.baload, 1) := by decide +kernel
theorem dX0_backTo_39 : decode cX0_backTo 39 = .ok (.isub, 1) := by decide +kernel
theorem dX0_backTo_40 : decode cX0_backTo 40 = .ok (.iload_n 2, 1) := by decide +kernel
theorem dX0_backTo_41 : decode cX0_backTo 41 = .ok (.if_icmp .le 28, 3) := by decide +kernel
theorem dX0_backTo_44 : decode cX0_backTo 44 = .ok (.iload_n 3, 1) := by decide +kernel
theorem dX0_backTo_45 : decode cX0_backTo 45 = .ok (.aload_n 0, 1) := by decide +kernel
theorem dX0_backTo_46 : decode cX0_backTo 46 = .ok (.getfield 13, 3) := by decide +kernel
theorem dX0_backTo_49 : decode cX0_backTo 49 = .ok (.iload 5, 2) := by decide +kernel
theorem dX0_backTo_51 : decode cX0_backTo 51 = .ok (.baload, 1) := by decide +kernel
theorem dX0_backTo_52 : decode cX0_backTo 52 = .ok (.isub, 1) := by decide +kernel
theorem dX0_backTo_53 : decode cX0_backTo 53 = .ok (.aload_n 0, 1) := by decide +kernel
theorem dX0_backTo_54 : decode cX0_backTo 54 = .ok (.getfield 16, 3) := by decide +kernel
theorem dX0_backTo_57 : decode cX0_backTo 57 = .ok (.iload 5, 2) := by decide +kernel
theorem dX0_backTo_59 : decode cX0_backTo 59 = .ok (.baload, 1) := by decide +kernel
theorem dX0_backTo_60 : decode cX0_backTo 60 = .ok (.iadd, 1) := by decide +kernel
theorem dX0_backTo_61 : decode cX0_backTo 61 = .ok (.iload_n 2, 1) := by decide +kernel
theorem dX0_backTo_62 : decode cX0_backTo 62 = .ok (.if_icmp .le 7, 3) := by decide +kernel
theorem dX0_backTo_65 : decode cX0_backTo 65 = .ok (.iconst 1, 1) := by decide +kernel
theorem dX0_backTo_66 : decode cX0_backTo 66 = .ok (.goto 4, 3) := by decide +kernel
theorem dX0_backTo_69 : decode cX0_backTo 69 = .ok (.iconst 0, 1) := by decide +kernel
theorem dX0_backTo_70 : decode cX0_backTo 70 = .ok (.istore 6, 2) := by decide +kernel
theorem dX0_backTo_72 : decode cX0_backTo 72 = .ok (.iload 6, 2) := by decide +kernel
theorem dX0_backTo_74 : decode cX0_backTo 74 = .ok (.ifCond .eq 19, 3) := by decide +kernel
theorem dX0_backTo_77 : decode cX0_backTo 77 = .ok (.iload_n 3, 1) := by decide +kernel
theorem dX0_backTo_78 : decode cX0_backTo 78 = .ok (.aload_n 0, 1) := by decide +kernel
theorem dX0_backTo_79 : decode cX0_backTo 79 = .ok (.getfield 13, 3) := by decide +kernel
theorem dX0_backTo_82 : decode cX0_backTo 82 = .ok (.iload 5, 2) := by decide +kernel
theorem dX0_backTo_84 : decode cX0_backTo 84 = .ok (.baload, 1) := by decide +kernel
theorem dX0_backTo_85 : decode cX0_backTo 85 = .ok (.isub, 1) := by decide +kernel
theorem dX0_backTo_86 : decode cX0_backTo 86 = .ok (.istore_n 3, 1) := by decide +kernel
theorem dX0_backTo_87 : decode cX0_backTo 87 = .ok (.iinc 4 (-8), 3) := by decide +kernel
theorem dX0_backTo_90 : decode cX0_backTo 90 = .ok (.goto 31, 3) := by decide +kernel
theorem dX0_backTo_93 : decode cX0_backTo 93 = .ok (.iinc 4 (-1), 3) := by decide +kernel
theorem dX0_backTo_96 : decode cX0_backTo 96 = .ok (.iload_n 3, 1) := by decide +kernel
theorem dX0_backTo_97 : decode cX0_backTo 97 = .ok (.aload_n 0, 1) := by decide +kernel
theorem dX0_backTo_98 : decode cX0_backTo 98 = .ok (.iload 4, 2) := by decide +kernel
theorem dX0_backTo_100 : decode cX0_backTo 100 = .ok (.invokevirtual 30, 3) := by decide +kernel
theorem dX0_backTo_103 : decode cX0_backTo 103 = .ok (.ifCond .eq 7, 3) := by decide +kernel
theorem dX0_backTo_106 : decode cX0_backTo 106 = .ok (.iconst 1, 1) := by decide +kernel
theorem dX0_backTo_107 : decode cX0_backTo 107 = .ok (.goto 4, 3) := by decide +kernel
theorem dX0_backTo_110 : decode cX0_backTo 110 = .ok (.iconst (-1), 1) := by decide +kernel
theorem dX0_backTo_111 : decode cX0_backTo 111 = .ok (.isub, 1) := by decide +kernel
theorem dX0_backTo_112 : decode cX0_backTo 112 = .ok (.istore_n 3, 1) := by decide +kernel
theorem dX0_backTo_113 : decode cX0_backTo 113 = .ok (.iload_n 3, 1) := by decide +kernel
theorem dX0_backTo_114 : decode cX0_backTo 114 = .ok (.iload_n 2, 1) := by decide +kernel
theorem dX0_backTo_115 : decode cX0_backTo 115 = .ok (.if_icmp .gt 6, 3) := by decide +kernel
theorem dX0_backTo_118 : decode cX0_backTo 118 = .ok (.iload 4, 2) := by decide +kernel
theorem dX0_backTo_120 : decode cX0_backTo 120 = .ok (.ireturn, 1) := by decide +kernel
theorem dX0_backTo_121 : decode cX0_backTo 121 = .ok (.goto (-112), 3) := by decide +kernel
theorem dX0_backTo_124 : decode cX0_backTo 124 = .ok (.iconst (-1), 1) := by decide +kernel
theorem dX0_backTo_125 : decode cX0_backTo 125 = .ok (.ireturn, 1) := by decide +kernel
abbrev cX0_undo : ByteArray := prog_1_method_6_code
def yX0_undo : MethodName := ⟨RX0, "undo", "()I"⟩
theorem dX0_undo_0 : decode cX0_undo 0 = .ok (.aload_n 0, 1) := by decide +kernel
theorem dX0_undo_1 : decode cX0_undo 1 = .ok (.getfield 26, 3) := by decide +kernel
theorem dX0_undo_4 : decode cX0_undo 4 = .ok (.ifCond .ne 5, 3) := by decide +kernel
theorem dX0_undo_7 : decode cX0_undo 7 = .ok (.iconst (-1), 1) := by decide +kernel
theorem dX0_undo_8 : decode cX0_undo 8 = .ok (.ireturn, 1) := by decide +kernel
theorem dX0_undo_9 : decode cX0_undo 9 = .ok (.aload_n 0, 1) := by decide +kernel
theorem dX0_undo_10 : decode cX0_undo 10 = .ok (.dup, 1) := by decide +kernel
theorem dX0_undo_11 : decode cX0_undo 11 = .ok (.getfield 26, 3) := by decide +kernel
theorem dX0_undo_14 : decode cX0_undo 14 = .ok (.iconst 1, 1) := by decide +kernel
theorem dX0_undo_15 : decode cX0_undo 15 = .ok (.isub, 1) := by decide +kernel
theorem dX0_undo_16 : decode cX0_undo 16 = .ok (.putfield 26, 3) := by decide +kernel
theorem dX0_undo_19 : decode cX0_undo 19 = .ok (.aload_n 0, 1) := by decide +kernel
theorem dX0_undo_20 : decode cX0_undo 20 = .ok (.aload_n 0, 1) := by decide +kernel
theorem dX0_undo_21 : decode cX0_undo 21 = .ok (.getfield 26, 3) := by decide +kernel
theorem dX0_undo_24 : decode cX0_undo 24 = .ok (.invokevirtual 34, 3) := by decide +kernel
theorem dX0_undo_27 : decode cX0_undo 27 = .ok (.aload_n 0, 1) := by decide +kernel
theorem dX0_undo_28 : decode cX0_undo 28 = .ok (.getfield 26, 3) := by decide +kernel
theorem dX0_undo_31 : decode cX0_undo 31 = .ok (.ireturn, 1) := by decide +kernel
abbrev cX0_parent : ByteArray := prog_1_method_15_code
def yX0_parent : MethodName := ⟨RX0, "parent", "(I)I"⟩
theorem dX0_parent_0 : decode cX0_parent 0 = .ok (.aload_n 0, 1) := by decide +kernel
theorem dX0_parent_1 : decode cX0_parent 1 = .ok (.iload_n 1, 1) := by decide +kernel
theorem dX0_parent_2 : decode cX0_parent 2 = .ok (.invokevirtual 58, 3) := by decide +kernel
theorem dX0_parent_5 : decode cX0_parent 5 = .ok (.ifCond .ne 5, 3) := by decide +kernel
theorem dX0_parent_8 : decode cX0_parent 8 = .ok (.iconst (-1), 1) := by decide +kernel
theorem dX0_parent_9 : decode cX0_parent 9 = .ok (.ireturn, 1) := by decide +kernel
theorem dX0_parent_10 : decode cX0_parent 10 = .ok (.aload_n 0, 1) := by decide +kernel
theorem dX0_parent_11 : decode cX0_parent 11 = .ok (.iload_n 1, 1) := by decide +kernel
theorem dX0_parent_12 : decode cX0_parent 12 = .ok (.invokevirtual 61, 3) := by decide +kernel
theorem dX0_parent_15 : decode cX0_parent 15 = .ok (.istore_n 2, 1) := by decide +kernel
theorem dX0_parent_16 : decode cX0_parent 16 = .ok (.aload_n 0, 1) := by decide +kernel
theorem dX0_parent_17 : decode cX0_parent 17 = .ok (.iload_n 2, 1) := by decide +kernel
theorem dX0_parent_18 : decode cX0_parent 18 = .ok (.invokevirtual 55, 3) := by decide +kernel
theorem dX0_parent_21 : decode cX0_parent 21 = .ok (.istore_n 3, 1) := by decide +kernel
theorem dX0_parent_22 : decode cX0_parent 22 = .ok (.iload_n 3, 1) := by decide +kernel
theorem dX0_parent_23 : decode cX0_parent 23 = .ok (.ifCond .ne 5, 3) := by decide +kernel
theorem dX0_parent_26 : decode cX0_parent 26 = .ok (.iconst (-1), 1) := by decide +kernel
theorem dX0_parent_27 : decode cX0_parent 27 = .ok (.ireturn, 1) := by decide +kernel
theorem dX0_parent_28 : decode cX0_parent 28 = .ok (.aload_n 0, 1) := by decide +kernel
theorem dX0_parent_29 : decode cX0_parent 29 = .ok (.iload_n 2, 1) := by decide +kernel
theorem dX0_parent_30 : decode cX0_parent 30 = .ok (.iload_n 3, 1) := by decide +kernel
theorem dX0_parent_31 : decode cX0_parent 31 = .ok (.iconst 1, 1) := by decide +kernel
theorem dX0_parent_32 : decode cX0_parent 32 = .ok (.isub, 1) := by decide +kernel
theorem dX0_parent_33 : decode cX0_parent 33 = .ok (.invokevirtual 45, 3) := by decide +kernel
theorem dX0_parent_36 : decode cX0_parent 36 = .ok (.istore 4, 2) := by decide +kernel
theorem dX0_parent_38 : decode cX0_parent 38 = .ok (.aload_n 0, 1) := by decide +kernel
theorem dX0_parent_39 : decode cX0_parent 39 = .ok (.iload 4, 2) := by decide +kernel
theorem dX0_parent_41 : decode cX0_parent 41 = .ok (.invokevirtual 51, 3) := by decide +kernel
theorem dX0_parent_44 : decode cX0_parent 44 = .ok (.ireturn, 1) := by decide +kernel
abbrev cX0_isNode : ByteArray := prog_1_method_11_code
def yX0_isNode : MethodName := ⟨RX0, "isNode", "(I)Z"⟩
theorem dX0_isNode_0 : decode cX0_isNode 0 = .ok (.iload_n 1, 1) := by decide +kernel
theorem dX0_isNode_1 : decode cX0_isNode 1 = .ok (.ifCond .lt 15, 3) := by decide +kernel
theorem dX0_isNode_4 : decode cX0_isNode 4 = .ok (.iload_n 1, 1) := by decide +kernel
theorem dX0_isNode_5 : decode cX0_isNode 5 = .ok (.aload_n 0, 1) := by decide +kernel
theorem dX0_isNode_6 : decode cX0_isNode 6 = .ok (.invokevirtual 38, 3) := by decide +kernel
theorem dX0_isNode_9 : decode cX0_isNode 9 = .ok (.if_icmp .ge 7, 3) := by decide +kernel
theorem dX0_isNode_12 : decode cX0_isNode 12 = .ok (.iconst 1, 1) := by decide +kernel
theorem dX0_isNode_13 : decode cX0_isNode 13 = .ok (.goto 4, 3) := by decide +kernel
theorem dX0_isNode_16 : decode cX0_isNode 16 = .ok (.iconst 0, 1) := by decide +kernel
theorem dX0_isNode_17 : decode cX0_isNode 17 = .ok (.ireturn, 1) := by decide +kernel
abbrev cX0_placeOf : ByteArray := prog_1_method_12_code
def yX0_placeOf : MethodName := ⟨RX0, "placeOf", "(I)I"⟩
theorem dX0_placeOf_0 : decode cX0_placeOf 0 = .ok (.iload_n 1, 1) := by decide +kernel
theorem dX0_placeOf_1 : decode cX0_placeOf 1 = .ok (.istore_n 2, 1) := by decide +kernel
theorem dX0_placeOf_2 : decode cX0_placeOf 2 = .ok (.iconst 0, 1) := by decide +kernel
theorem dX0_placeOf_3 : decode cX0_placeOf 3 = .ok (.istore_n 3, 1) := by decide +kernel
theorem dX0_placeOf_4 : decode cX0_placeOf 4 = .ok (.iload_n 3, 1) := by decide +kernel
theorem dX0_placeOf_5 : decode cX0_placeOf 5 = .ok (.bipush 7, 2) := by decide +kernel
theorem dX0_placeOf_7 : decode cX0_placeOf 7 = .ok (.if_icmp .ge 28, 3) := by decide +kernel
theorem dX0_placeOf_10 : decode cX0_placeOf 10 = .ok (.iload_n 2, 1) := by decide +kernel
theorem dX0_placeOf_11 : decode cX0_placeOf 11 = .ok (.aload_n 0, 1) := by decide +kernel
theorem dX0_placeOf_12 : decode cX0_placeOf 12 = .ok (.getfield 7, 3) := by decide +kernel
theorem dX0_placeOf_15 : decode cX0_placeOf 15 = .ok (.iload_n 3, 1) := by decide +kernel
theorem dX0_placeOf_16 : decode cX0_placeOf 16 = .ok (.baload, 1) := by decide +kernel
theorem dX0_placeOf_17 : decode cX0_placeOf 17 = .ok (.if_icmp .lt 18, 3) := by decide +kernel
theorem dX0_placeOf_20 : decode cX0_placeOf 20 = .ok (.iload_n 2, 1) := by decide +kernel
theorem dX0_placeOf_21 : decode cX0_placeOf 21 = .ok (.aload_n 0, 1) := by decide +kernel
theorem dX0_placeOf_22 : decode cX0_placeOf 22 = .ok (.getfield 7, 3) := by decide +kernel
theorem dX0_placeOf_25 : decode cX0_placeOf 25 = .ok (.iload_n 3, 1) := by decide +kernel
theorem dX0_placeOf_26 : decode cX0_placeOf 26 = .ok (.baload, 1) := by decide +kernel
theorem dX0_placeOf_27 : decode cX0_placeOf 27 = .ok (.isub, 1) := by decide +kernel
theorem dX0_placeOf_28 : decode cX0_placeOf 28 = .ok (.istore_n 2, 1) := by decide +kernel
theorem dX0_placeOf_29 : decode cX0_placeOf 29 = .ok (.iinc 3 1, 3) := by decide +kernel
theorem dX0_placeOf_32 : decode cX0_placeOf 32 = .ok (.goto (-28), 3) := by decide +kernel
theorem dX0_placeOf_35 : decode cX0_placeOf 35 = .ok (.iload_n 3, 1) := by decide +kernel
theorem dX0_placeOf_36 : decode cX0_placeOf 36 = .ok (.bipush 8, 2) := by decide +kernel
theorem dX0_placeOf_38 : decode cX0_placeOf 38 = .ok (.imul, 1) := by decide +kernel
theorem dX0_placeOf_39 : decode cX0_placeOf 39 = .ok (.istore 4, 2) := by decide +kernel
theorem dX0_placeOf_41 : decode cX0_placeOf 41 = .ok (.iload 4, 2) := by decide +kernel
theorem dX0_placeOf_43 : decode cX0_placeOf 43 = .ok (.bipush 63, 2) := by decide +kernel
theorem dX0_placeOf_45 : decode cX0_placeOf 45 = .ok (.if_icmp .ge 39, 3) := by decide +kernel
theorem dX0_placeOf_48 : decode cX0_placeOf 48 = .ok (.iload_n 2, 1) := by decide +kernel
theorem dX0_placeOf_49 : decode cX0_placeOf 49 = .ok (.ifCond .gt 12, 3) := by decide +kernel
theorem dX0_placeOf_52 : decode cX0_placeOf 52 = .ok (.aload_n 0, 1) := by decide +kernel
theorem dX0_placeOf_53 : decode cX0_placeOf 53 = .ok (.iload 4, 2) := by decide +kernel
theorem dX0_placeOf_55 : decode cX0_placeOf 55 = .ok (.invokevirtual 30, 3) := by decide +kernel
theorem dX0_placeOf_58 : decode cX0_placeOf 58 = .ok (.ifCond .ne 26, 3) := by decide +kernel
theorem dX0_placeOf_61 : decode cX0_placeOf 61 = .ok (.iload_n 2, 1) := by decide +kernel
theorem dX0_placeOf_62 : decode cX0_placeOf 62 = .ok (.aload_n 0, 1) := by decide +kernel
theorem dX0_placeOf_63 : decode cX0_placeOf 63 = .ok (.iload 4, 2) := by decide +kernel
theorem dX0_placeOf_65 : decode cX0_placeOf 65 = .ok (.invokevirtual 30, 3) := by decide +kernel
theorem dX0_placeOf_68 : decode cX0_placeOf 68 = .ok (.ifCond .eq 7, 3) := by decide +kernel
theorem dX0_placeOf_71 : decode cX0_placeOf 71 = .ok (.iconst 1, 1) := by decide +kernel
theorem dX0_placeOf_72 : decode cX0_placeOf 72 = .ok (.goto 4, 3) := by decide +kernel
theorem dX0_placeOf_75 : decode cX0_placeOf 75 = .ok (.iconst 0, 1) := by decide +kernel
theorem dX0_placeOf_76 : decode cX0_placeOf 76 = .ok (.isub, 1) := by decide +kernel
theorem dX0_placeOf_77 : decode cX0_placeOf 77 = .ok (.istore_n 2, 1) := by decide +kernel
theorem dX0_placeOf_78 : decode cX0_placeOf 78 = .ok (.iinc 4 1, 3) := by decide +kernel
theorem dX0_placeOf_81 : decode cX0_placeOf 81 = .ok (.goto (-40), 3) := by decide +kernel
theorem dX0_placeOf_84 : decode cX0_placeOf 84 = .ok (.iload 4, 2) := by decide +kernel
theorem dX0_placeOf_86 : decode cX0_placeOf 86 = .ok (.ireturn, 1) := by decide +kernel
abbrev cX0_depth : ByteArray := prog_1_method_16_code
def yX0_depth : MethodName := ⟨RX0, "depth", "(I)I"⟩
theorem dX0_depth_0 : decode cX0_depth 0 = .ok (.aload_n 0, 1) := by decide +kernel
theorem dX0_depth_1 : decode cX0_depth 1 = .ok (.iload_n 1, 1) := by decide +kernel
theorem dX0_depth_2 : decode cX0_depth 2 = .ok (.invokevirtual 58, 3) := by decide +kernel
theorem dX0_depth_5 : decode cX0_depth 5 = .ok (.ifCond .ne 5, 3) := by decide +kernel
theorem dX0_depth_8 : decode cX0_depth 8 = .ok (.iconst (-1), 1) := by decide +kernel
theorem dX0_depth_9 : decode cX0_depth 9 = .ok (.ireturn, 1) := by decide +kernel
theorem dX0_depth_10 : decode cX0_depth 10 = .ok (.aload_n 0, 1) := by decide +kernel
theorem dX0_depth_11 : decode cX0_depth 11 = .ok (.iload_n 1, 1) := by decide +kernel
theorem dX0_depth_12 : decode cX0_depth 12 = .ok (.invokevirtual 61, 3) := by decide +kernel
theorem dX0_depth_15 : decode cX0_depth 15 = .ok (.istore_n 2, 1) := by decide +kernel
theorem dX0_depth_16 : decode cX0_depth 16 = .ok (.aload_n 0, 1) := by decide +kernel
theorem dX0_depth_17 : decode cX0_depth 17 = .ok (.iload_n 2, 1) := by decide +kernel
theorem dX0_depth_18 : decode cX0_depth 18 = .ok (.invokevirtual 55, 3) := by decide +kernel
theorem dX0_depth_21 : decode cX0_depth 21 = .ok (.ireturn, 1) := by decide +kernel
abbrev cX0_size : ByteArray := prog_1_method_18_code
def yX0_size : MethodName := ⟨RX0, "size", "(I)I"⟩
theorem dX0_size_0 : decode cX0_size 0 = .ok (.aload_n 0, 1) := by decide +kernel
theorem dX0_size_1 : decode cX0_size 1 = .ok (.iload_n 1, 1) := by decide +kernel
theorem dX0_size_2 : decode cX0_size 2 = .ok (.invokevirtual 58, 3) := by decide +kernel
theorem dX0_size_5 : decode cX0_size 5 = .ok (.ifCond .ne 5, 3) := by decide +kernel
theorem dX0_size_8 : decode cX0_size 8 = .ok (.iconst (-1), 1) := by decide +kernel
theorem dX0_size_9 : decode cX0_size 9 = .ok (.ireturn, 1) := by decide +kernel
theorem dX0_size_10 : decode cX0_size 10 = .ok (.aload_n 0, 1) := by decide +kernel
theorem dX0_size_11 : decode cX0_size 11 = .ok (.iload_n 1, 1) := by decide +kernel
theorem dX0_size_12 : decode cX0_size 12 = .ok (.invokevirtual 61, 3) := by decide +kernel
theorem dX0_size_15 : decode cX0_size 15 = .ok (.istore_n 2, 1) := by decide +kernel
theorem dX0_size_16 : decode cX0_size 16 = .ok (.aload_n 0, 1) := by decide +kernel
theorem dX0_size_17 : decode cX0_size 17 = .ok (.iload_n 2, 1) := by decide +kernel
theorem dX0_size_18 : decode cX0_size 18 = .ok (.invokevirtual 67, 3) := by decide +kernel
theorem dX0_size_21 : decode cX0_size 21 = .ok (.istore_n 3, 1) := by decide +kernel
theorem dX0_size_22 : decode cX0_size 22 = .ok (.aload_n 0, 1) := by decide +kernel
theorem dX0_size_23 : decode cX0_size 23 = .ok (.iload_n 3, 1) := by decide +kernel
theorem dX0_size_24 : decode cX0_size 24 = .ok (.invokevirtual 51, 3) := by decide +kernel
theorem dX0_size_27 : decode cX0_size 27 = .ok (.iload_n 1, 1) := by decide +kernel
theorem dX0_size_28 : decode cX0_size 28 = .ok (.isub, 1) := by decide +kernel
theorem dX0_size_29 : decode cX0_size 29 = .ok (.ireturn, 1) := by decide +kernel
end
section
set_option maxRecDepth 100000
abbrev cX0_endOf : ByteArray := prog_1_method_17_code
def yX0_endOf : MethodName := ⟨RX0, "endOf", "(I)I"⟩
theorem dX0_endOf_0 : decode cX0_endOf 0 = .ok (.aload_n 0, 1) := by decide +kernel
theorem dX0_endOf_1 : decode cX0_endOf 1 = .ok (.iload_n 1, 1) := by decide +kernel
theorem dX0_endOf_2 : decode cX0_endOf 2 = .ok (.invokevirtual 55, 3) := by decide +kernel
theorem dX0_endOf_5 : decode cX0_endOf 5 = .ok (.istore_n 2, 1) := by decide +kernel
theorem dX0_endOf_6 : decode cX0_endOf 6 = .ok (.aload_n 0, 1) := by decide +kernel
theorem dX0_endOf_7 : decode cX0_endOf 7 = .ok (.iload_n 1, 1) := by decide +kernel
theorem dX0_endOf_8 : decode cX0_endOf 8 = .ok (.iload_n 2, 1) := by decide +kernel
theorem dX0_endOf_9 : decode cX0_endOf 9 = .ok (.invokevirtual 64, 3) := by decide +kernel
theorem dX0_endOf_12 : decode cX0_endOf 12 = .ok (.ireturn, 1) := by decide +kernel
abbrev cX0_forwardTo : ByteArray := prog_1_method_13_code
def yX0_forwardTo : MethodName := ⟨RX0, "forwardTo", "(II)I"⟩
theorem dX0_forwardTo_0 : decode cX0_forwardTo 0 = .ok (.aload_n 0, 1) := by decide +kernel
theorem dX0_forwardTo_1 : decode cX0_forwardTo 1 = .ok (.iload_n 1, 1) := by decide +kernel
theorem dX0_forwardTo_2 : decode cX0_forwardTo 2 = .ok (.invokevirtual 55, 3) := by decide +kernel
theorem dX0_forwardTo_5 : decode cX0_forwardTo 5 = .ok (.istore_n 3, 1) := by decide +kernel
theorem dX0_forwardTo_6 : decode cX0_forwardTo 6 = .ok (.iload_n 1, 1) := by decide +kernel
theorem dX0_forwardTo_7 : decode cX0_forwardTo 7 = .ok (.istore 4, 2) := by decide +kernel
theorem dX0_forwardTo_9 : decode cX0_forwardTo 9 = .ok (.iload 4, 2) := by decide +kernel
theorem dX0_forwardTo_11 : decode cX0_forwardTo 11 = .ok (.aload_n 0, 1) := by decide +kernel
theorem dX0_forwardTo_12 : decode cX0_forwardTo 12 = .ok (.getfield 26, 3) := by decide +kernel
theorem dX0_forwardTo_15 : decode cX0_forwardTo 15 = .ok (.if_icmp .ge 90, 3) := by decide +kernel
theorem dX0_forwardTo_18 : decode cX0_forwardTo 18 = .ok (.iload 4, 2) := by decide +kernel
theorem dX0_forwardTo_20 : decode cX0_forwardTo 20 = .ok (.bipush 8, 2) := by decide +kernel
theorem dX0_forwardTo_22 : decode cX0_forwardTo 22 = .ok (.idiv, 1) := by decide +kernel
theorem dX0_forwardTo_23 : decode cX0_forwardTo 23 = .ok (.istore 5, 2) := by decide +kernel
theorem dX0_forwardTo_25 : decode cX0_forwardTo 25 = .ok (.iload 4, 2) := by decide +kernel
theorem dX0_forwardTo_27 : decode cX0_forwardTo 27 = .ok (.bipush 8, 2) := by decide +kernel
theorem dX0_forwardTo_29 : decode cX0_forwardTo 29 = .ok (.irem, 1) := by decide +kernel
theorem dX0_forwardTo_30 : decode cX0_forwardTo 30 = .ok (.ifCond .ne 20, 3) := by decide +kernel
theorem dX0_forwardTo_33 : decode cX0_forwardTo 33 = .ok (.iload_n 3, 1) := by decide +kernel
theorem dX0_forwardTo_34 : decode cX0_forwardTo 34 = .ok (.aload_n 0, 1) := by decide +kernel
theorem dX0_forwardTo_35 : decode cX0_forwardTo 35 = .ok (.getfield 16, 3) := by decide +kernel
theorem dX0_forwardTo_38 : decode cX0_forwardTo 38 = .ok (.iload 5, 2) := by decide +kernel
theorem dX0_forwardTo_40 : decode cX0_forwardTo 40 = .ok (.baload, 1) := by decide +kernel
theorem dX0_forwardTo_41 : decode cX0_forwardTo 41 = .ok (.iadd, 1) := by decide +kernel
theorem dX0_forwardTo_42 : decode cX0_forwardTo 42 = .ok (.iload_n 2, 1) := by decide +kernel
theorem dX0_forwardTo_43 : decode cX0_forwardTo 43 = .ok (.if_icmp .le 7, 3) := by decide +kernel
theorem dX0_forwardTo_46 : decode cX0_forwardTo 46 = .ok (.iconst 1, 1) := by decide +kernel
theorem dX0_forwardTo_47 : decode cX0_forwardTo 47 = .ok (.goto 4, 3) := by decide +kernel
theorem dX0_forwardTo_50 : decode cX0_forwardTo 50 = .ok (.iconst 0, 1) := by decide +kernel
theorem dX0_forwardTo_51 : decode cX0_forwardTo 51 = .ok (.istore 6, 2) := by decide +kernel
theorem dX0_forwardTo_53 : decode cX0_forwardTo 53 = .ok (.iload 6, 2) := by decide +kernel
theorem dX0_forwardTo_55 : decode cX0_forwardTo 55 = .ok (.ifCond .eq 19, 3) := by decide +kernel
theorem dX0_forwardTo_58 : decode cX0_forwardTo 58 = .ok (.iload_n 3, 1) := by decide +kernel
theorem dX0_forwardTo_59 : decode cX0_forwardTo 59 = .ok (.aload_n 0, 1) := by decide +kernel
theorem dX0_forwardTo_60 : decode cX0_forwardTo 60 = .ok (.getfield 13, 3) := by decide +kernel
theorem dX0_forwardTo_63 : decode cX0_forwardTo 63 = .ok (.iload 5, 2) := by decide +kernel
theorem dX0_forwardTo_65 : decode cX0_forwardTo 65 = .ok (.baload, 1) := by decide +kernel
theorem dX0_forwardTo_66 : decode cX0_forwardTo 66 = .ok (.iadd, 1) := by decide +kernel
theorem dX0_forwardTo_67 : decode cX0_forwardTo 67 = .ok (.istore_n 3, 1) := by decide +kernel
theorem dX0_forwardTo_68 : decode cX0_forwardTo 68 = .ok (.iinc 4 8, 3) := by decide +kernel
theorem dX0_forwardTo_71 : decode cX0_forwardTo 71 = .ok (.goto 31, 3) := by decide +kernel
theorem dX0_forwardTo_74 : decode cX0_forwardTo 74 = .ok (.iload_n 3, 1) := by decide +kernel
theorem dX0_forwardTo_75 : decode cX0_forwardTo 75 = .ok (.aload_n 0, 1) := by decide +kernel
theorem dX0_forwardTo_76 : decode cX0_forwardTo 76 = .ok (.iload 4, 2) := by decide +kernel
theorem dX0_forwardTo_78 : decode cX0_forwardTo 78 = .ok (.invokevirtual 30, 3) := by decide +kernel
theorem dX0_forwardTo_81 : decode cX0_forwardTo 81 = .ok (.ifCond .eq 7, 3) := by decide +kernel
theorem dX0_forwardTo_84 : decode cX0_forwardTo 84 = .ok (.iconst 1, 1) := by decide +kernel
theorem dX0_forwardTo_85 : decode cX0_forwardTo 85 = .ok (.goto 4, 3) := by decide +kernel
theorem dX0_forwardTo_88 : decode cX0_forwardTo 88 = .ok (.iconst (-1), 1) := by decide +kernel
theorem dX0_forwardTo_89 : decode cX0_forwardTo 89 = .ok (.iadd, 1) := by decide +kernel
theorem dX0_forwardTo_90 : decode cX0_forwardTo 90 = .ok (.istore_n 3, 1) := by decide +kernel
theorem dX0_forwardTo_91 : decode cX0_forwardTo 91 = .ok (.iload_n 3, 1) := by decide +kernel
theorem dX0_forwardTo_92 : decode cX0_forwardTo 92 = .ok (.iload_n 2, 1) := by decide +kernel
theorem dX0_forwardTo_93 : decode cX0_forwardTo 93 = .ok (.if_icmp .gt 6, 3) := by decide +kernel
theorem dX0_forwardTo_96 : decode cX0_forwardTo 96 = .ok (.iload 4, 2) := by decide +kernel
theorem dX0_forwardTo_98 : decode cX0_forwardTo 98 = .ok (.ireturn, 1) := by decide +kernel
theorem dX0_forwardTo_99 : decode cX0_forwardTo 99 = .ok (.iinc 4 1, 3) := by decide +kernel
theorem dX0_forwardTo_102 : decode cX0_forwardTo 102 = .ok (.goto (-93), 3) := by decide +kernel
theorem dX0_forwardTo_105 : decode cX0_forwardTo 105 = .ok (.aload_n 0, 1) := by decide +kernel
theorem dX0_forwardTo_106 : decode cX0_forwardTo 106 = .ok (.getfield 26, 3) := by decide +kernel
theorem dX0_forwardTo_109 : decode cX0_forwardTo 109 = .ok (.ireturn, 1) := by decide +kernel
abbrev cX0_children : ByteArray := prog_1_method_20_code
def yX0_children : MethodName := ⟨RX0, "children", "(I)I"⟩
theorem dX0_children_0 : decode cX0_children 0 = .ok (.iconst 0, 1) := by decide +kernel
theorem dX0_children_1 : decode cX0_children 1 = .ok (.istore_n 2, 1) := by decide +kernel
theorem dX0_children_2 : decode cX0_children 2 = .ok (.aload_n 0, 1) := by decide +kernel
theorem dX0_children_3 : decode cX0_children 3 = .ok (.iload_n 1, 1) := by decide +kernel
theorem dX0_children_4 : decode cX0_children 4 = .ok (.iconst 0, 1) := by decide +kernel
theorem dX0_children_5 : decode cX0_children 5 = .ok (.invokevirtual 70, 3) := by decide +kernel
theorem dX0_children_8 : decode cX0_children 8 = .ok (.istore_n 3, 1) := by decide +kernel
theorem dX0_children_9 : decode cX0_children 9 = .ok (.iconst 0, 1) := by decide +kernel
theorem dX0_children_10 : decode cX0_children 10 = .ok (.istore 4, 2) := by decide +kernel
theorem dX0_children_12 : decode cX0_children 12 = .ok (.iload 4, 2) := by decide +kernel
theorem dX0_children_14 : decode cX0_children 14 = .ok (.bipush 64, 2) := by decide +kernel
theorem dX0_children_16 : decode cX0_children 16 = .ok (.if_icmp .ge 22, 3) := by decide +kernel
theorem dX0_children_19 : decode cX0_children 19 = .ok (.iload_n 3, 1) := by decide +kernel
theorem dX0_children_20 : decode cX0_children 20 = .ok (.ifCond .lt 18, 3) := by decide +kernel
theorem dX0_children_23 : decode cX0_children 23 = .ok (.iinc 2 1, 3) := by decide +kernel
theorem dX0_children_26 : decode cX0_children 26 = .ok (.aload_n 0, 1) := by decide +kernel
theorem dX0_children_27 : decode cX0_children 27 = .ok (.iload_n 3, 1) := by decide +kernel
theorem dX0_children_28 : decode cX0_children 28 = .ok (.invokevirtual 73, 3) := by decide +kernel
theorem dX0_children_31 : decode cX0_children 31 = .ok (.istore_n 3, 1) := by decide +kernel
theorem dX0_children_32 : decode cX0_children 32 = .ok (.iinc 4 1, 3) := by decide +kernel
theorem dX0_children_35 : decode cX0_children 35 = .ok (.goto (-23), 3) := by decide +kernel
theorem dX0_children_38 : decode cX0_children 38 = .ok (.aload_n 0, 1) := by decide +kernel
theorem dX0_children_39 : decode cX0_children 39 = .ok (.iload_n 1, 1) := by decide +kernel
theorem dX0_children_40 : decode cX0_children 40 = .ok (.invokevirtual 58, 3) := by decide +kernel
theorem dX0_children_43 : decode cX0_children 43 = .ok (.ifCond .eq 7, 3) := by decide +kernel
theorem dX0_children_46 : decode cX0_children 46 = .ok (.iload_n 2, 1) := by decide +kernel
theorem dX0_children_47 : decode cX0_children 47 = .ok (.goto 4, 3) := by decide +kernel
theorem dX0_children_50 : decode cX0_children 50 = .ok (.iconst (-1), 1) := by decide +kernel
theorem dX0_children_51 : decode cX0_children 51 = .ok (.ireturn, 1) := by decide +kernel
abbrev cX0_child : ByteArray := prog_1_method_21_code
def yX0_child : MethodName := ⟨RX0, "child", "(II)I"⟩
theorem dX0_child_0 : decode cX0_child 0 = .ok (.aload_n 0, 1) := by decide +kernel
theorem dX0_child_1 : decode cX0_child 1 = .ok (.iload_n 1, 1) := by decide +kernel
theorem dX0_child_2 : decode cX0_child 2 = .ok (.invokevirtual 58, 3) := by decide +kernel
theorem dX0_child_5 : decode cX0_child 5 = .ok (.ifCond .eq 7, 3) := by decide +kernel
theorem dX0_child_8 : decode cX0_child 8 = .ok (.iload_n 2, 1) := by decide +kernel
theorem dX0_child_9 : decode cX0_child 9 = .ok (.ifCond .ge 5, 3) := by decide +kernel
theorem dX0_child_12 : decode cX0_child 12 = .ok (.iconst (-1), 1) := by decide +kernel
theorem dX0_child_13 : decode cX0_child 13 = .ok (.ireturn, 1) := by decide +kernel
theorem dX0_child_14 : decode cX0_child 14 = .ok (.aload_n 0, 1) := by decide +kernel
theorem dX0_child_15 : decode cX0_child 15 = .ok (.iload_n 1, 1) := by decide +kernel
theorem dX0_child_16 : decode cX0_child 16 = .ok (.invokevirtual 61, 3) := by decide +kernel
theorem dX0_child_19 : decode cX0_child 19 = .ok (.istore_n 3, 1) := by decide +kernel
theorem dX0_child_20 : decode cX0_child 20 = .ok (.aload_n 0, 1) := by decide +kernel
theorem dX0_child_21 : decode cX0_child 21 = .ok (.iload_n 3, 1) := by decide +kernel
theorem dX0_child_22 : decode cX0_child 22 = .ok (.iconst 1, 1) := by decide +kernel
theorem dX0_child_23 : decode cX0_child 23 = .ok (.iadd, 1) := by decide +kernel
theorem dX0_child_24 : decode cX0_child 24 = .ok (.invokevirtual 76, 3) := by decide +kernel
theorem dX0_child_27 : decode cX0_child 27 = .ok (.istore 4, 2) := by decide +kernel
theorem dX0_child_29 : decode cX0_child 29 = .ok (.iconst 0, 1) := by decide +kernel
theorem dX0_child_30 : decode cX0_child 30 = .ok (.istore 5, 2) := by decide +kernel
theorem dX0_child_32 : decode cX0_child 32 = .ok (.iload 5, 2) := by decide +kernel
theorem dX0_child_34 : decode cX0_child 34 = .ok (.iload_n 2, 1) := by decide +kernel
theorem dX0_child_35 : decode cX0_child 35 = .ok (.if_icmp .ge 22, 3) := by decide +kernel
theorem dX0_child_38 : decode cX0_child 38 = .ok (.iload 4, 2) := by decide +kernel
theorem dX0_child_40 : decode cX0_child 40 = .ok (.ifCond .lt 17, 3) := by decide +kernel
theorem dX0_child_43 : decode cX0_child 43 = .ok (.aload_n 0, 1) := by decide +kernel
theorem dX0_child_44 : decode cX0_child 44 = .ok (.iload 4, 2) := by decide +kernel
theorem dX0_child_46 : decode cX0_child 46 = .ok (.invokevirtual 73, 3) := by decide +kernel
theorem dX0_child_49 : decode cX0_child 49 = .ok (.istore 4, 2) := by decide +kernel
theorem dX0_child_51 : decode cX0_child 51 = .ok (.iinc 5 1, 3) := by decide +kernel
theorem dX0_child_54 : decode cX0_child 54 = .ok (.goto (-22), 3) := by decide +kernel
theorem dX0_child_57 : decode cX0_child 57 = .ok (.iload 4, 2) := by decide +kernel
theorem dX0_child_59 : decode cX0_child 59 = .ok (.ireturn, 1) := by decide +kernel
abbrev cX0_nodeAt : ByteArray := prog_1_method_19_code
def yX0_nodeAt : MethodName := ⟨RX0, "nodeAt", "(I)I"⟩
theorem dX0_nodeAt_0 : decode cX0_nodeAt 0 = .ok (.iload_n 1, 1) := by decide +kernel
theorem dX0_nodeAt_1 : decode cX0_nodeAt 1 = .ok (.aload_n 0, 1) := by decide +kernel
theorem dX0_nodeAt_2 : decode cX0_nodeAt 2 = .ok (.getfield 26, 3) := by decide +kernel
theorem dX0_nodeAt_5 : decode cX0_nodeAt 5 = .ok (.if_icmp .ge 19, 3) := by decide +kernel
theorem dX0_nodeAt_8 : decode cX0_nodeAt 8 = .ok (.aload_n 0, 1) := by decide +kernel
theorem dX0_nodeAt_9 : decode cX0_nodeAt 9 = .ok (.iload_n 1, 1) := by decide +kernel
theorem dX0_nodeAt_10 : decode cX0_nodeAt 10 = .ok (.invokevirtual 30, 3) := by decide +kernel
theorem dX0_nodeAt_13 : decode cX0_nodeAt 13 = .ok (.ifCond .eq 11, 3) := by decide +kernel
theorem dX0_nodeAt_16 : decode cX0_nodeAt 16 = .ok (.aload_n 0, 1) := by decide +kernel
theorem dX0_nodeAt_17 : decode cX0_nodeAt 17 = .ok (.iload_n 1, 1) := by decide +kernel
theorem dX0_nodeAt_18 : decode cX0_nodeAt 18 = .ok (.invokevirtual 51, 3) := by decide +kernel
theorem dX0_nodeAt_21 : decode cX0_nodeAt 21 = .ok (.goto 4, 3) := by decide +kernel
theorem dX0_nodeAt_24 : decode cX0_nodeAt 24 = .ok (.iconst (-1), 1) := by decide +kernel
theorem dX0_nodeAt_25 : decode cX0_nodeAt 25 = .ok (.ireturn, 1) := by decide +kernel
abbrev cX0_next : ByteArray := prog_1_method_22_code
def yX0_next : MethodName := ⟨RX0, "next", "(I)I"⟩
theorem dX0_next_0 : decode cX0_next 0 = .ok (.aload_n 0, 1) := by decide +kernel
theorem dX0_next_1 : decode cX0_next 1 = .ok (.iload_n 1, 1) := by decide +kernel
theorem dX0_next_2 : decode cX0_next 2 = .ok (.invokevirtual 58, 3) := by decide +kernel
theorem dX0_next_5 : decode cX0_next 5 = .ok (.ifCond .ne 5, 3) := by decide +kernel
theorem dX0_next_8 : decode cX0_next 8 = .ok (.iconst (-1), 1) := by decide +kernel
theorem dX0_next_9 : decode cX0_next 9 = .ok (.ireturn, 1) := by decide +kernel
theorem dX0_next_10 : decode cX0_next 10 = .ok (.aload_n 0, 1) := by decide +kernel
theorem dX0_next_11 : decode cX0_next 11 = .ok (.iload_n 1, 1) := by decide +kernel
theorem dX0_next_12 : decode cX0_next 12 = .ok (.invokevirtual 61, 3) := by decide +kernel
theorem dX0_next_15 : decode cX0_next 15 = .ok (.istore_n 2, 1) := by decide +kernel
theorem dX0_next_16 : decode cX0_next 16 = .ok (.aload_n 0, 1) := by decide +kernel
theorem dX0_next_17 : decode cX0_next 17 = .ok (.iload_n 2, 1) := by decide +kernel
theorem dX0_next_18 : decode cX0_next 18 = .ok (.invokevirtual 67, 3) := by decide +kernel
theorem dX0_next_21 : decode cX0_next 21 = .ok (.istore_n 3, 1) := by decide +kernel
theorem dX0_next_22 : decode cX0_next 22 = .ok (.aload_n 0, 1) := by decide +kernel
theorem dX0_next_23 : decode cX0_next 23 = .ok (.iload_n 3, 1) := by decide +kernel
theorem dX0_next_24 : decode cX0_next 24 = .ok (.iconst 1, 1) := by decide +kernel
theorem dX0_next_25 : decode cX0_next 25 = .ok (.iadd, 1) := by decide +kernel
theorem dX0_next_26 : decode cX0_next 26 = .ok (.invokevirtual 76, 3) := by decide +kernel
theorem dX0_next_29 : decode cX0_next 29 = .ok (.ireturn, 1) := by decide +kernel
abbrev cX0_previous : ByteArray := prog_1_method_23_code
def yX0_previous : MethodName := ⟨RX0, "previous", "(I)I"⟩
theorem dX0_previous_0 : decode cX0_previous 0 = .ok (.aload_n 0, 1) := by decide +kernel
theorem dX0_previous_1 : decode cX0_previous 1 = .ok (.iload_n 1, 1) := by decide +kernel
theorem dX0_previous_2 : decode cX0_previous 2 = .ok (.invokevirtual 58, 3) := by decide +kernel
theorem dX0_previous_5 : decode cX0_previous 5 = .ok (.ifCond .ne 5, 3) := by decide +kernel
theorem dX0_previous_8 : decode cX0_previous 8 = .ok (.iconst (-1), 1) := by decide +kernel
theorem dX0_previous_9 : decode cX0_previous 9 = .ok (.ireturn, 1) := by decide +kernel
theorem dX0_previous_10 : decode cX0_previous 10 = .ok (.aload_n 0, 1) := by decide +kernel
theorem dX0_previous_11 : decode cX0_previous 11 = .ok (.iload_n 1, 1) := by decide +kernel
theorem dX0_previous_12 : decode cX0_previous 12 = .ok (.invokevirtual 61, 3) := by decide +kernel
theorem dX0_previous_15 : decode cX0_previous 15 = .ok (.istore_n 2, 1) := by decide +kernel
theorem dX0_previous_16 : decode cX0_previous 16 = .ok (.iload_n 2, 1) := by decide +kernel
theorem dX0_previous_17 : decode cX0_previous 17 = .ok (.ifCond .eq 13, 3) := by decide +kernel
theorem dX0_previous_20 : decode cX0_previous 20 = .ok (.aload_n 0, 1) := by decide +kernel
theorem dX0_previous_21 : decode cX0_previous 21 = .ok (.iload_n 2, 1) := by decide +kernel
theorem dX0_previous_22 : decode cX0_previous 22 = .ok (.iconst 1, 1) := by decide +kernel
theorem dX0_previous_23 : decode cX0_previous 23 = .ok (.isub, 1) := by decide +kernel
theorem dX0_previous_24 : decode cX0_previous 24 = .ok (.invokevirtual 30, 3) := by decide +kernel
theorem dX0_previous_27 : decode cX0_previous 27 = .ok (.ifCond .eq 5, 3) := by decide +kernel
theorem dX0_previous_30 : decode cX0_previous 30 = .ok (.iconst (-1), 1) := by decide +kernel
theorem dX0_previous_31 : decode cX0_previous 31 = .ok (.ireturn, 1) := by decide +kernel
theorem dX0_previous_32 : decode cX0_previous 32 = .ok (.aload_n 0, 1) := by decide +kernel
theorem dX0_previous_33 : decode cX0_previous 33 = .ok (.iload_n 2, 1) := by decide +kernel
theorem dX0_previous_34 : decode cX0_previous 34 = .ok (.invokevirtual 55, 3) := by decide +kernel
theorem dX0_previous_37 : decode cX0_previous 37 = .ok (.istore_n 3, 1) := by decide +kernel
theorem dX0_previous_38 : decode cX0_previous 38 = .ok (.aload_n 0, 1) := by decide +kernel
theorem dX0_previous_39 : decode cX0_previous 39 = .ok (.iload_n 2, 1) := by decide +kernel
theorem dX0_previous_40 : decode cX0_previous 40 = .ok (.iconst 1, 1) := by decide +kernel
theorem dX0_previous_41 : decode cX0_previous 41 = .ok (.isub, 1) := by decide +kernel
theorem dX0_previous_42 : decode cX0_previous 42 = .ok (.iload_n 3, 1) := by decide +kernel
theorem dX0_previous_43 : decode cX0_previous 43 = .ok (.invokevirtual 45, 3) := by decide +kernel
theorem dX0_previous_46 : decode cX0_previous 46 = .ok (.istore 4, 2) := by decide +kernel
theorem dX0_previous_48 : decode cX0_previous 48 = .ok (.aload_n 0, 1) := by decide +kernel
theorem dX0_previous_49 : decode cX0_previous 49 = .ok (.iload 4, 2) := by decide +kernel
theorem dX0_previous_51 : decode cX0_previous 51 = .ok (.invokevirtual 51, 3) := by decide +kernel
theorem dX0_previous_54 : decode cX0_previous 54 = .ok (.ireturn, 1) := by decide +kernel
abbrev cX0_meet : ByteArray := prog_1_method_24_code
def yX0_meet : MethodName := ⟨RX0, "meet", "(II)I"⟩
theorem dX0_meet_0 : decode cX0_meet 0 = .ok (.aload_n 0, 1) := by decide +kernel
theorem dX0_meet_1 : decode cX0_meet 1 = .ok (.iload_n 1, 1) := by decide +kernel
theorem dX0_meet_2 : decode cX0_meet 2 = .ok (.invokevirtual 58, 3) := by decide +kernel
theorem dX0_meet_5 : decode cX0_meet 5 = .ok (.ifCond .eq 11, 3) := by decide +kernel
theorem dX0_meet_8 : decode cX0_meet 8 = .ok (.aload_n 0, 1) := by decide +kernel
theorem dX0_meet_9 : decode cX0_meet 9 = .ok (.iload_n 2, 1) := by decide +kernel
theorem dX0_meet_10 : decode cX0_meet 10 = .ok (.invokevirtual 58, 3) := by decide +kernel
theorem dX0_meet_13 : decode cX0_meet 13 = .ok (.ifCond .ne 5, 3) := by decide +kernel
theorem dX0_meet_16 : decode cX0_meet 16 = .ok (.iconst (-1), 1) := by decide +kernel
theorem dX0_meet_17 : decode cX0_meet 17 = .ok (.ireturn, 1) := by decide +kernel
theorem dX0_meet_18 : decode cX0_meet 18 = .ok (.iload_n 1, 1) := by decide +kernel
theorem dX0_meet_19 : decode cX0_meet 19 = .ok (.iload_n 2, 1) := by decide +kernel
theorem dX0_meet_20 : decode cX0_meet 20 = .ok (.if_icmp .ge 7, 3) := by decide +kernel
theorem dX0_meet_23 : decode cX0_meet 23 = .ok (.iload_n 1, 1) := by decide +kernel
theorem dX0_meet_24 : decode cX0_meet 24 = .ok (.goto 4, 3) := by decide +kernel
theorem dX0_meet_27 : decode cX0_meet 27 = .ok (.iload_n 2, 1) := by decide +kernel
theorem dX0_meet_28 : decode cX0_meet 28 = .ok (.istore_n 3, 1) := by decide +kernel
theorem dX0_meet_29 : decode cX0_meet 29 = .ok (.iload_n 1, 1) := by decide +kernel
theorem dX0_meet_30 : decode cX0_meet 30 = .ok (.iload_n 2, 1) := by decide +kernel
theorem dX0_meet_31 : decode cX0_meet 31 = .ok (.if_icmp .ge 7, 3) := by decide +kernel
theorem dX0_meet_34 : decode cX0_meet 34 = .ok (.iload_n 2, 1) := by decide +kernel
theorem dX0_meet_35 : decode cX0_meet 35 = .ok (.goto 4, 3) := by decide +kernel
theorem dX0_meet_38 : decode cX0_meet 38 = .ok (.iload_n 1, 1) := by decide +kernel
theorem dX0_meet_39 : decode cX0_meet 39 = .ok (.istore 4, 2) := by decide +kernel
theorem dX0_meet_41 : decode cX0_meet 41 = .ok (.aload_n 0, 1) := by decide +kernel
theorem dX0_meet_42 : decode cX0_meet 42 = .ok (.iload_n 3, 1) := by decide +kernel
theorem dX0_meet_43 : decode cX0_meet 43 = .ok (.invokevirtual 61, 3) := by decide +kernel
theorem dX0_meet_46 : decode cX0_meet 46 = .ok (.istore 5, 2) := by decide +kernel
theorem dX0_meet_48 : decode cX0_meet 48 = .ok (.aload_n 0, 1) := by decide +kernel
theorem dX0_meet_49 : decode cX0_meet 49 = .ok (.iload 4, 2) := by decide +kernel
theorem dX0_meet_51 : decode cX0_meet 51 = .ok (.invokevirtual 61, 3) := by decide +kernel
theorem dX0_meet_54 : decode cX0_meet 54 = .ok (.istore 6, 2) := by decide +kernel
theorem dX0_meet_56 : decode cX0_meet 56 = .ok (.aload_n 0, 1) := by decide +kernel
theorem dX0_meet_57 : decode cX0_meet 57 = .ok (.iload 5, 2) := by decide +kernel
theorem dX0_meet_59 : decode cX0_meet 59 = .ok (.invokevirtual 55, 3) := by decide +kernel
theorem dX0_meet_62 : decode cX0_meet 62 = .ok (.istore 7, 2) := by decide +kernel
theorem dX0_meet_64 : decode cX0_meet 64 = .ok (.aload_n 0, 1) := by decide +kernel
theorem dX0_meet_65 : decode cX0_meet 65 = .ok (.iload 5, 2) := by decide +kernel
theorem dX0_meet_67 : decode cX0_meet 67 = .ok (.iload 6, 2) := by decide +kernel
theorem dX0_meet_69 : decode cX0_meet 69 = .ok (.invokevirtual 79, 3) := by decide +kernel
theorem dX0_meet_72 : decode cX0_meet 72 = .ok (.istore 8, 2) := by decide +kernel
theorem dX0_meet_74 : decode cX0_meet 74 = .ok (.iload 8, 2) := by decide +kernel
theorem dX0_meet_76 : decode cX0_meet 76 = .ok (.iload 7, 2) := by decide +kernel
theorem dX0_meet_78 : decode cX0_meet 78 = .ok (.if_icmp .gt 9, 3) := by decide +kernel
theorem dX0_meet_81 : decode cX0_meet 81 = .ok (.iload_n 3, 1) := by decide +kernel
theorem dX0_meet_82 : decode cX0_meet 82 = .ok (.iload 4, 2) := by decide +kernel
theorem dX0_meet_84 : decode cX0_meet 84 = .ok (.if_icmp .ne 7, 3) := by decide +kernel
theorem dX0_meet_87 : decode cX0_meet 87 = .ok (.iload_n 3, 1) := by decide +kernel
theorem dX0_meet_88 : decode cX0_meet 88 = .ok (.goto 12, 3) := by decide +kernel
theorem dX0_meet_91 : decode cX0_meet 91 = .ok (.aload_n 0, 1) := by decide +kernel
theorem dX0_meet_92 : decode cX0_meet 92 = .ok (.iload_n 3, 1) := by decide +kernel
theorem dX0_meet_93 : decode cX0_meet 93 = .ok (.iload 8, 2) := by decide +kernel
theorem dX0_meet_95 : decode cX0_meet 95 = .ok (.iconst 1, 1) := by decide +kernel
theorem dX0_meet_96 : decode cX0_meet 96 = .ok (.isub, 1) := by decide +kernel
theorem dX0_meet_97 : decode cX0_meet 97 = .ok (.invokevirtual 82, 3) := by decide +kernel
theorem dX0_meet_100 : decode cX0_meet 100 = .ok (.ireturn, 1) := by decide +kernel
abbrev cX0_leastBetween : ByteArray := prog_1_method_26_code
def yX0_leastBetween : MethodName := ⟨RX0, "leastBetween", "(II)I"⟩
theorem dX0_leastBetween_0 : decode cX0_leastBetween 0 = .ok (.aload_n 0, 1) := by decide +kernel
theorem dX0_leastBetween_1 : decode cX0_leastBetween 1 = .ok (.iload_n 1, 1) := by decide +kernel
theorem dX0_leastBetween_2 : decode cX0_leastBetween 2 = .ok (.invokevirtual 55, 3) := by decide +kernel
theorem dX0_leastBetween_5 : decode cX0_leastBetween 5 = .ok (.istore_n 3, 1) := by decide +kernel
theorem dX0_leastBetween_6 : decode cX0_leastBetween 6 = .ok (.bipush 64, 2) := by decide +kernel
theorem dX0_leastBetween_8 : decode cX0_leastBetween 8 = .ok (.istore 4, 2) := by decide +kernel
theorem dX0_leastBetween_10 : decode cX0_leastBetween 10 = .ok (.iload_n 1, 1) := by decide +kernel
theorem dX0_leastBetween_11 : decode cX0_leastBetween 11 = .ok (.istore 5, 2) := by decide +kernel
theorem dX0_leastBetween_13 : decode cX0_leastBetween 13 = .ok (.iload 5, 2) := by decide +kernel
theorem dX0_leastBetween_15 : decode cX0_leastBetween 15 = .ok (.iload_n 2, 1) := by decide +kernel
theorem dX0_leastBetween_16 : decode cX0_leastBetween 16 = .ok (.if_icmp .ge 110, 3) := by decide +kernel
theorem dX0_leastBetween_19 : decode cX0_leastBetween 19 = .ok (.iload 5, 2) := by decide +kernel
theorem dX0_leastBetween_21 : decode cX0_leastBetween 21 = .ok (.bipush 8, 2) := by decide +kernel
theorem dX0_leastBetween_23 : decode cX0_leastBetween 23 = .ok (.idiv, 1) := by decide +kernel
theorem dX0_leastBetween_24 : decode cX0_leastBetween 24 = .ok (.istore 6, 2) := by decide +kernel
theorem dX0_leastBetween_26 : decode cX0_leastBetween 26 = .ok (.iload 5, 2) := by decide +kernel
theorem dX0_leastBetween_28 : decode cX0_leastBetween 28 = .ok (.bipush 8, 2) := by decide +kernel
theorem dX0_leastBetween_30 : decode cX0_leastBetween 30 = .ok (.irem, 1) := by decide +kernel
theorem dX0_leastBetween_31 : decode cX0_leastBetween 31 = .ok (.ifCond .ne 58, 3) := by decide +kernel
theorem dX0_leastBetween_34 : decode cX0_leastBetween 34 = .ok (.iload 5, 2) := by decide +kernel
theorem dX0_leastBetween_36 : decode cX0_leastBetween 36 = .ok (.bipush 8, 2) := by decide +kernel
theorem dX0_leastBetween_38 : decode cX0_leastBetween 38 = .ok (.iadd, 1) := by decide +kernel
theorem dX0_leastBetween_39 : decode cX0_leastBetween 39 = .ok (.iload_n 2, 1) := by decide +kernel
theorem dX0_leastBetween_40 : decode cX0_leastBetween 40 = .ok (.if_icmp .gt 49, 3) := by decide +kernel
theorem dX0_leastBetween_43 : decode cX0_leastBetween 43 = .ok (.iload_n 3, 1) := by decide +kernel
theorem dX0_leastBetween_44 : decode cX0_leastBetween 44 = .ok (.aload_n 0, 1) := by decide +kernel
theorem dX0_leastBetween_45 : decode cX0_leastBetween 45 = .ok (.getfield 16, 3) := by decide +kernel
theorem dX0_leastBetween_48 : decode cX0_leastBetween 48 = .ok (.iload 6, 2) := by decide +kernel
theorem dX0_leastBetween_50 : decode cX0_leastBetween 50 = .ok (.baload, 1) := by decide +kernel
theorem dX0_leastBetween_51 : decode cX0_leastBetween 51 = .ok (.iadd, 1) := by decide +kernel
theorem dX0_leastBetween_52 : decode cX0_leastBetween 52 = .ok (.iload 4, 2) := by decide +kernel
theorem dX0_leastBetween_54 : decode cX0_leastBetween 54 = .ok (.if_icmp .ge 15, 3) := by decide +kernel
theorem dX0_leastBetween_57 : decode cX0_leastBetween 57 = .ok (.iload_n 3, 1) := by decide +kernel
theorem dX0_leastBetween_58 : decode cX0_leastBetween 58 = .ok (.aload_n 0, 1) := by decide +kernel
theorem dX0_leastBetween_59 : decode cX0_leastBetween 59 = .ok (.getfield 16, 3) := by decide +kernel
theorem dX0_leastBetween_62 : decode cX0_leastBetween 62 = .ok (.iload 6, 2) := by decide +kernel
theorem dX0_leastBetween_64 : decode cX0_leastBetween 64 = .ok (.baload, 1) := by decide +kernel
theorem dX0_leastBetween_65 : decode cX0_leastBetween 65 = .ok (.iadd, 1) := by decide +kernel
theorem dX0_leastBetween_66 : decode cX0_leastBetween 66 = .ok (.goto 5, 3) := by decide +kernel
theorem dX0_leastBetween_69 : decode cX0_leastBetween 69 = .ok (.iload 4, 2) := by decide +kernel
theorem dX0_leastBetween_71 : decode cX0_leastBetween 71 = .ok (.istore 4, 2) := by decide +kernel
theorem dX0_leastBetween_73 : decode cX0_leastBetween 73 = .ok (.iload_n 3, 1) := by decide +kernel
theorem dX0_leastBetween_74 : decode cX0_leastBetween 74 = .ok (.aload_n 0, 1) := by decide +kernel
theorem dX0_leastBetween_75 : decode cX0_leastBetween 75 = .ok (.getfield 13, 3) := by decide +kernel
theorem dX0_leastBetween_78 : decode cX0_leastBetween 78 = .ok (.iload 6, 2) := by decide +kernel
theorem dX0_leastBetween_80 : decode cX0_leastBetween 80 = .ok (.baload, 1) := by decide +kernel
theorem dX0_leastBetween_81 : decode cX0_leastBetween 81 = .ok (.iadd, 1) := by decide +kernel
theorem dX0_leastBetween_82 : decode cX0_leastBetween 82 = .ok (.istore_n 3, 1) := by decide +kernel
theorem dX0_leastBetween_83 : decode cX0_leastBetween 83 = .ok (.iinc 5 8, 3) := by decide +kernel
theorem dX0_leastBetween_86 : decode cX0_leastBetween 86 = .ok (.goto 37, 3) := by decide +kernel
theorem dX0_leastBetween_89 : decode cX0_leastBetween 89 = .ok (.iload_n 3, 1) := by decide +kernel
theorem dX0_leastBetween_90 : decode cX0_leastBetween 90 = .ok (.aload_n 0, 1) := by decide +kernel
theorem dX0_leastBetween_91 : decode cX0_leastBetween 91 = .ok (.iload 5, 2) := by decide +kernel
theorem dX0_leastBetween_93 : decode cX0_leastBetween 93 = .ok (.invokevirtual 30, 3) := by decide +kernel
theorem dX0_leastBetween_96 : decode cX0_leastBetween 96 = .ok (.ifCond .eq 7, 3) := by decide +kernel
theorem dX0_leastBetween_99 : decode cX0_leastBetween 99 = .ok (.iconst 1, 1) := by decide +kernel
theorem dX0_leastBetween_100 : decode cX0_leastBetween 100 = .ok (.goto 4, 3) := by decide +kernel
theorem dX0_leastBetween_103 : decode cX0_leastBetween 103 = .ok (.iconst (-1), 1) := by decide +kernel
theorem dX0_leastBetween_104 : decode cX0_leastBetween 104 = .ok (.iadd, 1) := by decide +kernel
theorem dX0_leastBetween_105 : decode cX0_leastBetween 105 = .ok (.istore_n 3, 1) := by decide +kernel
theorem dX0_leastBetween_106 : decode cX0_leastBetween 106 = .ok (.iload_n 3, 1) := by decide +kernel
theorem dX0_leastBetween_107 : decode cX0_leastBetween 107 = .ok (.iload 4, 2) := by decide +kernel
theorem dX0_leastBetween_109 : decode cX0_leastBetween 109 = .ok (.if_icmp .ge 7, 3) := by decide +kernel
theorem dX0_leastBetween_112 : decode cX0_leastBetween 112 = .ok (.iload_n 3, 1) := by decide +kernel
theorem dX0_leastBetween_113 : decode cX0_leastBetween 113 = .ok (.goto 5, 3) := by decide +kernel
theorem dX0_leastBetween_116 : decode cX0_leastBetween 116 = .ok (.iload 4, 2) := by decide +kernel
theorem dX0_leastBetween_118 : decode cX0_leastBetween 118 = .ok (.istore 4, 2) := by decide +kernel
theorem dX0_leastBetween_120 : decode cX0_leastBetween 120 = .ok (.iinc 5 1, 3) := by decide +kernel
theorem dX0_leastBetween_123 : decode cX0_leastBetween 123 = .ok (.goto (-110), 3) := by decide +kernel
theorem dX0_leastBetween_126 : decode cX0_leastBetween 126 = .ok (.iload 4, 2) := by decide +kernel
theorem dX0_leastBetween_128 : decode cX0_leastBetween 128 = .ok (.ireturn, 1) := by decide +kernel
abbrev cX0_aboveAt : ByteArray := prog_1_method_25_code
def yX0_aboveAt : MethodName := ⟨RX0, "aboveAt", "(II)I"⟩
theorem dX0_aboveAt_0 : decode cX0_aboveAt 0 = .ok (.aload_n 0, 1) := by decide +kernel
theorem dX0_aboveAt_1 : decode cX0_aboveAt 1 = .ok (.iload_n 1, 1) := by decide +kernel
theorem dX0_aboveAt_2 : decode cX0_aboveAt 2 = .ok (.invokevirtual 58, 3) := by decide +kernel
theorem dX0_aboveAt_5 : decode cX0_aboveAt 5 = .ok (.ifCond .eq 7, 3) := by decide +kernel
theorem dX0_aboveAt_8 : decode cX0_aboveAt 8 = .ok (.iload_n 2, 1) := by decide +kernel
theorem dX0_aboveAt_9 : decode cX0_aboveAt 9 = .ok (.ifCond .ge 5, 3) := by decide +kernel
theorem dX0_aboveAt_12 : decode cX0_aboveAt 12 = .ok (.iconst (-1), 1) := by decide +kernel
theorem dX0_aboveAt_13 : decode cX0_aboveAt 13 = .ok (.ireturn, 1) := by decide +kernel
theorem dX0_aboveAt_14 : decode cX0_aboveAt 14 = .ok (.aload_n 0, 1) := by decide +kernel
theorem dX0_aboveAt_15 : decode cX0_aboveAt 15 = .ok (.iload_n 1, 1) := by decide +kernel
theorem dX0_aboveAt_16 : decode cX0_aboveAt 16 = .ok (.invokevirtual 61, 3) := by decide +kernel
theorem dX0_aboveAt_19 : decode cX0_aboveAt 19 = .ok (.istore_n 3, 1) := by decide +kernel
theorem dX0_aboveAt_20 : decode cX0_aboveAt 20 = .ok (.aload_n 0, 1) := by decide +kernel
theorem dX0_aboveAt_21 : decode cX0_aboveAt 21 = .ok (.iload_n 3, 1) := by decide +kernel
theorem dX0_aboveAt_22 : decode cX0_aboveAt 22 = .ok (.invokevirtual 55, 3) := by decide +kernel
theorem dX0_aboveAt_25 : decode cX0_aboveAt 25 = .ok (.istore 4, 2) := by decide +kernel
theorem dX0_aboveAt_27 : decode cX0_aboveAt 27 = .ok (.iload_n 2, 1) := by decide +kernel
theorem dX0_aboveAt_28 : decode cX0_aboveAt 28 = .ok (.iload 4, 2) := by decide +kernel
theorem dX0_aboveAt_30 : decode cX0_aboveAt 30 = .ok (.if_icmp .lt 15, 3) := by decide +kernel
theorem dX0_aboveAt_33 : decode cX0_aboveAt 33 = .ok (.iload_n 2, 1) := by decide +kernel
theorem dX0_aboveAt_34 : decode cX0_aboveAt 34 = .ok (.iload 4, 2) := by decide +kernel
theorem dX0_aboveAt_36 : decode cX0_aboveAt 36 = .ok (.if_icmp .ne 7, 3) := by decide +kernel
theorem dX0_aboveAt_39 : decode cX0_aboveAt 39 = .ok (.iload_n 1, 1) := by decide +kernel
theorem dX0_aboveAt_40 : decode cX0_aboveAt 40 = .ok (.goto 4, 3) := by decide +kernel
theorem dX0_aboveAt_43 : decode cX0_aboveAt 43 = .ok (.iconst (-1), 1) := by decide +kernel
theorem dX0_aboveAt_44 : decode cX0_aboveAt 44 = .ok (.ireturn, 1) := by decide +kernel
theorem dX0_aboveAt_45 : decode cX0_aboveAt 45 = .ok (.aload_n 0, 1) := by decide +kernel
theorem dX0_aboveAt_46 : decode cX0_aboveAt 46 = .ok (.iload_n 3, 1) := by decide +kernel
theorem dX0_aboveAt_47 : decode cX0_aboveAt 47 = .ok (.iload_n 2, 1) := by decide +kernel
theorem dX0_aboveAt_48 : decode cX0_aboveAt 48 = .ok (.invokevirtual 45, 3) := by decide +kernel
theorem dX0_aboveAt_51 : decode cX0_aboveAt 51 = .ok (.istore 5, 2) := by decide +kernel
theorem dX0_aboveAt_53 : decode cX0_aboveAt 53 = .ok (.aload_n 0, 1) := by decide +kernel
theorem dX0_aboveAt_54 : decode cX0_aboveAt 54 = .ok (.iload 5, 2) := by decide +kernel
theorem dX0_aboveAt_56 : decode cX0_aboveAt 56 = .ok (.invokevirtual 51, 3) := by decide +kernel
theorem dX0_aboveAt_59 : decode cX0_aboveAt 59 = .ok (.ireturn, 1) := by decide +kernel
abbrev cX0_height : ByteArray := prog_1_method_27_code
def yX0_height : MethodName := ⟨RX0, "height", "(I)I"⟩
theorem dX0_height_0 : decode cX0_height 0 = .ok (.aload_n 0, 1) := by decide +kernel
theorem dX0_height_1 : decode cX0_height 1 = .ok (.iload_n 1, 1) := by decide +kernel
theorem dX0_height_2 : decode cX0_height 2 = .ok (.invokevirtual 58, 3) := by decide +kernel
theorem dX0_height_5 : decode cX0_height 5 = .ok (.ifCond .ne 5, 3) := by decide +kernel
theorem dX0_height_8 : decode cX0_height 8 = .ok (.iconst (-1), 1) := by decide +kernel
theorem dX0_height_9 : decode cX0_height 9 = .ok (.ireturn, 1) := by decide +kernel
theorem dX0_height_10 : decode cX0_height 10 = .ok (.aload_n 0, 1) := by decide +kernel
theorem dX0_height_11 : decode cX0_height 11 = .ok (.iload_n 1, 1) := by decide +kernel
theorem dX0_height_12 : decode cX0_height 12 = .ok (.invokevirtual 61, 3) := by decide +kernel
theorem dX0_height_15 : decode cX0_height 15 = .ok (.istore_n 2, 1) := by decide +kernel
theorem dX0_height_16 : decode cX0_height 16 = .ok (.aload_n 0, 1) := by decide +kernel
theorem dX0_height_17 : decode cX0_height 17 = .ok (.iload_n 2, 1) := by decide +kernel
theorem dX0_height_18 : decode cX0_height 18 = .ok (.invokevirtual 67, 3) := by decide +kernel
theorem dX0_height_21 : decode cX0_height 21 = .ok (.istore_n 3, 1) := by decide +kernel
theorem dX0_height_22 : decode cX0_height 22 = .ok (.aload_n 0, 1) := by decide +kernel
theorem dX0_height_23 : decode cX0_height 23 = .ok (.iload_n 2, 1) := by decide +kernel
theorem dX0_height_24 : decode cX0_height 24 = .ok (.invokevirtual 55, 3) := by decide +kernel
theorem dX0_height_27 : decode cX0_height 27 = .ok (.istore 4, 2) := by decide +kernel
theorem dX0_height_29 : decode cX0_height 29 = .ok (.iload 4, 2) := by decide +kernel
theorem dX0_height_31 : decode cX0_height 31 = .ok (.istore 5, 2) := by decide +kernel
theorem dX0_height_33 : decode cX0_height 33 = .ok (.iload 4, 2) := by decide +kernel
theorem dX0_height_35 : decode cX0_height 35 = .ok (.istore 6, 2) := by decide +kernel
theorem dX0_height_37 : decode cX0_height 37 = .ok (.iload_n 2, 1) := by decide +kernel
theorem dX0_height_38 : decode cX0_height 38 = .ok (.istore 7, 2) := by decide +kernel
theorem dX0_height_40 : decode cX0_height 40 = .ok (.iload 7, 2) := by decide +kernel
theorem dX0_height_42 : decode cX0_height 42 = .ok (.iload_n 3, 1) := by decide +kernel
theorem dX0_height_43 : decode cX0_height 43 = .ok (.if_icmp .ge 118, 3) := by decide +kernel
theorem dX0_height_46 : decode cX0_height 46 = .ok (.iload 7, 2) := by decide +kernel
theorem dX0_height_48 : decode cX0_height 48 = .ok (.bipush 8, 2) := by decide +kernel
theorem dX0_height_50 : decode cX0_height 50 = .ok (.idiv, 1) := by decide +kernel
theorem dX0_height_51 : decode cX0_height 51 = .ok (.istore 8, 2) := by decide +kernel
theorem dX0_height_53 : decode cX0_height 53 = .ok (.iload 7, 2) := by decide +kernel
theorem dX0_height_55 : decode cX0_height 55 = .ok (.bipush 8, 2) := by decide +kernel
theorem dX0_height_57 : decode cX0_height 57 = .ok (.irem, 1) := by decide +kernel
theorem dX0_height_58 : decode cX0_height 58 = .ok (.ifCond .ne 62, 3) := by decide +kernel
theorem dX0_height_61 : decode cX0_height 61 = .ok (.iload 7, 2) := by decide +kernel
theorem dX0_height_63 : decode cX0_height 63 = .ok (.bipush 8, 2) := by decide +kernel
theorem dX0_height_65 : decode cX0_height 65 = .ok (.iadd, 1) := by decide +kernel
theorem dX0_height_66 : decode cX0_height 66 = .ok (.iload_n 3, 1) := by decide +kernel
theorem dX0_height_67 : decode cX0_height 67 = .ok (.if_icmp .gt 53, 3) := by decide +kernel
theorem dX0_height_70 : decode cX0_height 70 = .ok (.iload 5, 2) := by decide +kernel
theorem dX0_height_72 : decode cX0_height 72 = .ok (.aload_n 0, 1) := by decide +kernel
theorem dX0_height_73 : decode cX0_height 73 = .ok (.getfield 19, 3) := by decide +kernel
theorem dX0_height_76 : decode cX0_height 76 = .ok (.iload 8, 2) := by decide +kernel
theorem dX0_height_78 : decode cX0_height 78 = .ok (.baload, 1) := by decide +kernel
theorem dX0_height_79 : decode cX0_height 79 = .ok (.iadd, 1) := by decide +kernel
theorem dX0_height_80 : decode cX0_height 80 = .ok (.iload 6, 2) := by decide +kernel
theorem dX0_height_82 : decode cX0_height 82 = .ok (.if_icmp .le 16, 3) := by decide +kernel
theorem dX0_height_85 : decode cX0_height 85 = .ok (.iload 5, 2) := by decide +kernel
theorem dX0_height_87 : decode cX0_height 87 = .ok (.aload_n 0, 1) := by decide +kernel
theorem dX0_height_88 : decode cX0_height 88 = .ok (.getfield 19, 3) := by decide +kernel
theorem dX0_height_91 : decode cX0_height 91 = .ok (.iload 8, 2) := by decide +kernel
theorem dX0_height_93 : decode cX0_height 93 = .ok (.baload, 1) := by decide +kernel
theorem dX0_height_94 : decode cX0_height 94 = .ok (.iadd, 1) := by decide +kernel
theorem dX0_height_95 : decode cX0_height 95 = .ok (.goto 5, 3) := by decide +kernel
theorem dX0_height_98 : decode cX0_height 98 = .ok (.iload 6, 2) := by decide +kernel
theorem dX0_height_100 : decode cX0_height 100 = .ok (.istore 6, 2) := by decide +kernel
theorem dX0_height_102 : decode cX0_height 102 = .ok (.iload 5, 2) := by decide +kernel
theorem dX0_height_104 : decode cX0_height 104 = .ok (.aload_n 0, 1) := by decide +kernel
theorem dX0_height_105 : decode cX0_height 105 = .ok (.getfield 13, 3) := by decide +kernel
theorem dX0_height_108 : decode cX0_height 108 = .ok (.iload 8, 2) := by decide +kernel
theorem dX0_height_110 : decode cX0_height 110 = .ok (.baload, 1) := by decide +kernel
theorem dX0_height_111 : decode cX0_height 111 = .ok (.iadd, 1) := by decide +kernel
theorem dX0_height_112 : decode cX0_height 112 = .ok (.istore 5, 2) := by decide +kernel
theorem dX0_height_114 : decode cX0_height 114 = .ok (.iinc 7 8, 3) := by decide +kernel
theorem dX0_height_117 : decode cX0_height 117 = .ok (.goto 41, 3) := by decide +kernel
theorem dX0_height_120 : decode cX0_height 120 = .ok (.iload 5, 2) := by decide +kernel
theorem dX0_height_122 : decode cX0_height 122 = .ok (.aload_n 0, 1) := by decide +kernel
theorem dX0_height_123 : decode cX0_height 123 = .ok (.iload 7, 2) := by decide +kernel
theorem dX0_height_125 : decode cX0_height 125 = .ok (.invokevirtual 30, 3) := by decide +kernel
theorem dX0_height_128 : decode cX0_height 128 = .ok (.ifCond .eq 7, 3) := by decide +kernel
theorem dX0_height_131 : decode cX0_height 131 = .ok (.iconst 1, 1) := by decide +kernel
theorem dX0_height_132 : decode cX0_height 132 = .ok (.goto 4, 3) := by decide +kernel
theorem dX0_height_135 : decode cX0_height 135 = .ok (.iconst (-1), 1) := by decide +kernel
theorem dX0_height_136 : decode cX0_height 136 = .ok (.iadd, 1) := by decide +kernel
theorem dX0_height_137 : decode cX0_height 137 = .ok (.istore 5, 2) := by decide +kernel
theorem dX0_height_139 : decode cX0_height 139 = .ok (.iload 5, 2) := by decide +kernel
theorem dX0_height_141 : decode cX0_height 141 = .ok (.iload 6, 2) := by decide +kernel
theorem dX0_height_143 : decode cX0_height 143 = .ok (.if_icmp .le 8, 3) := by decide +kernel
theorem dX0_height_146 : decode cX0_height 146 = .ok (.iload 5, 2) := by decide +kernel
theorem dX0_height_148 : decode cX0_height 148 = .ok (.goto 5, 3) := by decide +kernel
theorem dX0_height_151 : decode cX0_height 151 = .ok (.iload 6, 2) := by decide +kernel
theorem dX0_height_153 : decode cX0_height 153 = .ok (.istore 6, 2) := by decide +kernel
theorem dX0_height_155 : decode cX0_height 155 = .ok (.iinc 7 1, 3) := by decide +kernel
theorem dX0_height_158 : decode cX0_height 158 = .ok (.goto (-118), 3) := by decide +kernel
theorem dX0_height_161 : decode cX0_height 161 = .ok (.iload 6, 2) := by decide +kernel
theorem dX0_height_163 : decode cX0_height 163 = .ok (.iload 4, 2) := by decide +kernel
theorem dX0_height_165 : decode cX0_height 165 = .ok (.isub, 1) := by decide +kernel
theorem dX0_height_166 : decode cX0_height 166 = .ok (.iconst 1, 1) := by decide +kernel
theorem dX0_height_167 : decode cX0_height 167 = .ok (.isub, 1) := by decide +kernel
theorem dX0_height_168 : decode cX0_height 168 = .ok (.ireturn, 1) := by decide +kernel
abbrev cX0_leavesBefore : ByteArray := prog_1_method_28_code
def yX0_leavesBefore : MethodName := ⟨RX0, "leavesBefore", "(I)I"⟩
theorem dX0_leavesBefore_0 : decode cX0_leavesBefore 0 = .ok (.aload_n 0, 1) := by decide +kernel
theorem dX0_leavesBefore_1 : decode cX0_leavesBefore 1 = .ok (.iload_n 1, 1) := by decide +kernel
theorem dX0_leavesBefore_2 : decode cX0_leavesBefore 2 = .ok (.invokevirtual 58, 3) := by decide +kernel
theorem dX0_leavesBefore_5 : decode cX0_leavesBefore 5 = .ok (.ifCond .ne 5, 3) := by decide +kernel
theorem dX0_leavesBefore_8 : decode cX0_leavesBefore 8 = .ok (.iconst (-1), 1) := by decide +kernel
theorem dX0_leavesBefore_9 : decode cX0_leavesBefore 9 = .ok (.ireturn, 1) := by decide +kernel
theorem dX0_leavesBefore_10 : decode cX0_leavesBefore 10 = .ok (.aload_n 0, 1) := by decide +kernel
theorem dX0_leavesBefore_11 : decode cX0_leavesBefore 11 = .ok (.iload_n 1, 1) := by decide +kernel
theorem dX0_leavesBefore_12 : decode cX0_leavesBefore 12 = .ok (.invokevirtual 61, 3) := by decide +kernel
theorem dX0_leavesBefore_15 : decode cX0_leavesBefore 15 = .ok (.istore_n 2, 1) := by decide +kernel
theorem dX0_leavesBefore_16 : decode cX0_leavesBefore 16 = .ok (.iconst 0, 1) := by decide +kernel
theorem dX0_leavesBefore_17 : decode cX0_leavesBefore 17 = .ok (.istore_n 3, 1) := by decide +kernel
theorem dX0_leavesBefore_18 : decode cX0_leavesBefore 18 = .ok (.iconst 0, 1) := by decide +kernel
theorem dX0_leavesBefore_19 : decode cX0_leavesBefore 19 = .ok (.istore 4, 2) := by decide +kernel
theorem dX0_leavesBefore_21 : decode cX0_leavesBefore 21 = .ok (.iload 4, 2) := by decide +kernel
theorem dX0_leavesBefore_23 : decode cX0_leavesBefore 23 = .ok (.iconst 1, 1) := by decide +kernel
theorem dX0_leavesBefore_24 : decode cX0_leavesBefore 24 = .ok (.iadd, 1) := by decide +kernel
theorem dX0_leavesBefore_25 : decode cX0_leavesBefore 25 = .ok (.iload_n 2, 1) := by decide +kernel
theorem dX0_leavesBefore_26 : decode cX0_leavesBefore 26 = .ok (.if_icmp .ge 37, 3) := by decide +kernel
theorem dX0_leavesBefore_29 : decode cX0_leavesBefore 29 = .ok (.iload_n 3, 1) := by decide +kernel
theorem dX0_leavesBefore_30 : decode cX0_leavesBefore 30 = .ok (.aload_n 0, 1) := by decide +kernel
theorem dX0_leavesBefore_31 : decode cX0_leavesBefore 31 = .ok (.iload 4, 2) := by decide +kernel
theorem dX0_leavesBefore_33 : decode cX0_leavesBefore 33 = .ok (.invokevirtual 30, 3) := by decide +kernel
theorem dX0_leavesBefore_36 : decode cX0_leavesBefore 36 = .ok (.ifCond .eq 18, 3) := by decide +kernel
theorem dX0_leavesBefore_39 : decode cX0_leavesBefore 39 = .ok (.aload_n 0, 1) := by decide +kernel
theorem dX0_leavesBefore_40 : decode cX0_leavesBefore 40 = .ok (.iload 4, 2) := by decide +kernel
theorem dX0_leavesBefore_42 : decode cX0_leavesBefore 42 = .ok (.iconst 1, 1) := by decide +kernel
theorem dX0_leavesBefore_43 : decode cX0_leavesBefore 43 = .ok (.iadd, 1) := by decide +kernel
theorem dX0_leavesBefore_44 : decode cX0_leavesBefore 44 = .ok (.invokevirtual 30, 3) := by decide +kernel
theorem dX0_leavesBefore_47 : decode cX0_leavesBefore 47 = .ok (.ifCond .ne 7, 3) := by decide +kernel
theorem dX0_leavesBefore_50 : decode cX0_leavesBefore 50 = .ok (.iconst 1, 1) := by decide +kernel
theorem dX0_leavesBefore_51 : decode cX0_leavesBefore 51 = .ok (.goto 4, 3) := by decide +kernel
theorem dX0_leavesBefore_54 : decode cX0_leavesBefore 54 = .ok (.iconst 0, 1) := by decide +kernel
theorem dX0_leavesBefore_55 : decode cX0_leavesBefore 55 = .ok (.iadd, 1) := by decide +kernel
theorem dX0_leavesBefore_56 : decode cX0_leavesBefore 56 = .ok (.istore_n 3, 1) := by decide +kernel
theorem dX0_leavesBefore_57 : decode cX0_leavesBefore 57 = .ok (.iinc 4 1, 3) := by decide +kernel
theorem dX0_leavesBefore_60 : decode cX0_leavesBefore 60 = .ok (.goto (-39), 3) := by decide +kernel
theorem dX0_leavesBefore_63 : decode cX0_leavesBefore 63 = .ok (.iload_n 3, 1) := by decide +kernel
theorem dX0_leavesBefore_64 : decode cX0_leavesBefore 64 = .ok (.ireturn, 1) := by decide +kernel
theorem q16 : (Jvm.Cond.initialized "TreeCodes") ∈ lw_all := lw_g (lw_at lw_m1 1 rfl) rfl
theorem q19 : (Jvm.Cond.instantiable "TreeCodes" (6 : Nat)) ∈ lw_all := lw_g (lw_at lw_m1 4 rfl) rfl
theorem q21 : (Jvm.Cond.instanceMethod ({ cls := "TreeCodes", name := "<init>", desc := "()V" } : Jvm.MethodName)) ∈ lw_all := lw_g (lw_at lw_m1 6 rfl) rfl
theorem q22 : (Jvm.Cond.code ({ cls := "TreeCodes", name := "<init>", desc := "()V" } : Jvm.MethodName) prog_1_method_1_code (1 : Nat) (Option.none : Option Jvm.ClassFile.FieldType)) ∈ lw_all := lw_g (lw_at lw_m1 7 rfl) rfl
theorem q23 : (Jvm.Cond.methodLink "TreeCodes" (1 : Nat) ({ cls := "java/lang/Object", name := "<init>", desc := "()V" } : Jvm.MethodName)) ∈ lw_all := lw_g (lw_at lw_m1 8 rfl) rfl
theorem q26 : (Jvm.Cond.fieldLink "TreeCodes" (22 : Nat) "TreeCodes" "word" "J") ∈ lw_all := lw_g (lw_at lw_m1 11 rfl) rfl
theorem q27 : (Jvm.Cond.fieldLink "TreeCodes" (26 : Nat) "TreeCodes" "count" "I") ∈ lw_all := lw_g (lw_at lw_m1 12 rfl) rfl
theorem q28 : (Jvm.Cond.fieldLink "TreeCodes" (7 : Nat) "TreeCodes" "opens" "[B") ∈ lw_all := lw_g (lw_at lw_m1 13 rfl) rfl
theorem q29 : (Jvm.Cond.fieldLink "TreeCodes" (13 : Nat) "TreeCodes" "rise" "[B") ∈ lw_all := lw_g (lw_at lw_m1 14 rfl) rfl
theorem q30 : (Jvm.Cond.fieldLink "TreeCodes" (16 : Nat) "TreeCodes" "least" "[B") ∈ lw_all := lw_g (lw_at lw_m1 15 rfl) rfl
theorem q31 : (Jvm.Cond.fieldLink "TreeCodes" (19 : Nat) "TreeCodes" "most" "[B") ∈ lw_all := lw_g (lw_at lw_m1 16 rfl) rfl
theorem q32 : (Jvm.Cond.lays "TreeCodes" "TreeCodes" "word" "J") ∈ lw_all := lw_g (lw_at lw_m1 17 rfl) rfl
theorem q33 : (Jvm.Cond.soleField "TreeCodes" "word") ∈ lw_all := lw_g (lw_at lw_m1 18 rfl) rfl
theorem q34 : (Jvm.Cond.lays "TreeCodes" "TreeCodes" "count" "I") ∈ lw_all := lw_g (lw_at lw_m1 19 rfl) rfl
theorem q35 : (Jvm.Cond.soleField "TreeCodes" "count") ∈ lw_all := lw_g (lw_at lw_m1 20 rfl) rfl
theorem q36 : (Jvm.Cond.laysFinal "TreeCodes" "TreeCodes" "opens" "[B") ∈ lw_all := lw_g (lw_at lw_m1 21 rfl) rfl
theorem q37 : (Jvm.Cond.soleField "TreeCodes" "opens") ∈ lw_all := lw_g (lw_at lw_m1 22 rfl) rfl
theorem q38 : (Jvm.Cond.laysFinal "TreeCodes" "TreeCodes" "rise" "[B") ∈ lw_all := lw_g (lw_at lw_m1 23 rfl) rfl
theorem q39 : (Jvm.Cond.soleField "TreeCodes" "rise") ∈ lw_all := lw_g (lw_at lw_m1 24 rfl) rfl
theorem q40 : (Jvm.Cond.laysFinal "TreeCodes" "TreeCodes" "least" "[B") ∈ lw_all := lw_g (lw_at lw_m1 25 rfl) rfl
theorem q41 : (Jvm.Cond.soleField "TreeCodes" "least") ∈ lw_all := lw_g (lw_at lw_m1 26 rfl) rfl
theorem q42 : (Jvm.Cond.laysFinal "TreeCodes" "TreeCodes" "most" "[B") ∈ lw_all := lw_g (lw_at lw_m1 27 rfl) rfl
theorem q43 : (Jvm.Cond.soleField "TreeCodes" "most") ∈ lw_all := lw_g (lw_at lw_m1 28 rfl) rfl
theorem q44 : (Jvm.Cond.superclass "TreeCodes" "java/lang/Object") ∈ lw_all := lw_g (lw_at lw_m1 29 rfl) rfl
theorem q47 : (Jvm.Cond.instanceMethod ({ cls := "TreeCodes", name := "open", desc := "()I" } : Jvm.MethodName)) ∈ lw_all := lw_g (lw_at lw_m1 32 rfl) rfl
theorem q48 : (Jvm.Cond.selects "TreeCodes" ({ cls := "TreeCodes", name := "open", desc := "()I" } : Jvm.MethodName) ({ cls := "TreeCodes", name := "open", desc := "()I" } : Jvm.MethodName)) ∈ lw_all := lw_g (lw_at lw_m1 33 rfl) rfl
theorem q49 : (Jvm.Cond.code ({ cls := "TreeCodes", name := "open", desc := "()I" } : Jvm.MethodName) prog_1_method_4_code (1 : Nat) (Option.some Jvm.ClassFile.FieldType.int)) ∈ lw_all := lw_g (lw_at lw_m1 34 rfl) rfl
theorem q50 : (Jvm.Cond.methodLink "TreeCodes" (34 : Nat) ({ cls := "TreeCodes", name := "refresh", desc := "(I)V" } : Jvm.MethodName)) ∈ lw_all := lw_g (lw_at lw_m1 35 rfl) rfl
theorem q51 : (Jvm.Cond.privateMethod ({ cls := "TreeCodes", name := "refresh", desc := "(I)V" } : Jvm.MethodName)) ∈ lw_tbl := lw_at lw_m1 36 rfl
theorem q52 : (Jvm.Cond.instanceMethod ({ cls := "TreeCodes", name := "refresh", desc := "(I)V" } : Jvm.MethodName)) ∈ lw_all := lw_g (lw_at lw_m1 37 rfl) rfl
theorem q53 : (Jvm.Cond.code ({ cls := "TreeCodes", name := "refresh", desc := "(I)V" } : Jvm.MethodName) prog_1_method_3_code (8 : Nat) (Option.none : Option Jvm.ClassFile.FieldType)) ∈ lw_all := lw_g (lw_at lw_m1 38 rfl) rfl
theorem q54 : (Jvm.Cond.methodLink "TreeCodes" (30 : Nat) ({ cls := "TreeCodes", name := "opensAt", desc := "(I)Z" } : Jvm.MethodName)) ∈ lw_all := lw_g (lw_at lw_m1 39 rfl) rfl
theorem q55 : (Jvm.Cond.privateMethod ({ cls := "TreeCodes", name := "opensAt", desc := "(I)Z" } : Jvm.MethodName)) ∈ lw_tbl := lw_at lw_m1 40 rfl
theorem q56 : (Jvm.Cond.instanceMethod ({ cls := "TreeCodes", name := "opensAt", desc := "(I)Z" } : Jvm.MethodName)) ∈ lw_all := lw_g (lw_at lw_m1 41 rfl) rfl
theorem q57 : (Jvm.Cond.code ({ cls := "TreeCodes", name := "opensAt", desc := "(I)Z" } : Jvm.MethodName) prog_1_method_2_code (2 : Nat) (Option.some Jvm.ClassFile.FieldType.boolean)) ∈ lw_all := lw_g (lw_at lw_m1 42 rfl) rfl
theorem q58 : (Jvm.Cond.methodLink "TreeCodes" (38 : Nat) ({ cls := "TreeCodes", name := "nodes", desc := "()I" } : Jvm.MethodName)) ∈ lw_all := lw_g (lw_at lw_m1 43 rfl) rfl
theorem q59 : (Jvm.Cond.instanceMethod ({ cls := "TreeCodes", name := "nodes", desc := "()I" } : Jvm.MethodName)) ∈ lw_all := lw_g (lw_at lw_m1 44 rfl) rfl
theorem q60 : (Jvm.Cond.selects "TreeCodes" ({ cls := "TreeCodes", name := "nodes", desc := "()I" } : Jvm.MethodName) ({ cls := "TreeCodes", name := "nodes", desc := "()I" } : Jvm.MethodName)) ∈ lw_all := lw_g (lw_at lw_m1 45 rfl) rfl
theorem q61 : (Jvm.Cond.code ({ cls := "TreeCodes", name := "nodes", desc := "()I" } : Jvm.MethodName) prog_1_method_8_code (1 : Nat) (Option.some Jvm.ClassFile.FieldType.int)) ∈ lw_all := lw_g (lw_at lw_m1 46 rfl) rfl
theorem q62 : (Jvm.Cond.methodLink "TreeCodes" (51 : Nat) ({ cls := "TreeCodes", name := "opensBefore", desc := "(I)I" } : Jvm.MethodName)) ∈ lw_all := lw_g (lw_at lw_m1 47 rfl) rfl
theorem q63 : (Jvm.Cond.privateMethod ({ cls := "TreeCodes", name := "opensBefore", desc := "(I)I" } : Jvm.MethodName)) ∈ lw_tbl := lw_at lw_m1 48 rfl
theorem q64 : (Jvm.Cond.instanceMethod ({ cls := "TreeCodes", name := "opensBefore", desc := "(I)I" } : Jvm.MethodName)) ∈ lw_all := lw_g (lw_at lw_m1 49 rfl) rfl
theorem q65 : (Jvm.Cond.code ({ cls := "TreeCodes", name := "opensBefore", desc := "(I)I" } : Jvm.MethodName) prog_1_method_7_code (5 : Nat) (Option.some Jvm.ClassFile.FieldType.int)) ∈ lw_all := lw_g (lw_at lw_m1 50 rfl) rfl
theorem q67 : (Jvm.Cond.instanceMethod ({ cls := "TreeCodes", name := "close", desc := "()I" } : Jvm.MethodName)) ∈ lw_all := lw_g (lw_at lw_m1 52 rfl) rfl
theorem q68 : (Jvm.Cond.selects "TreeCodes" ({ cls := "TreeCodes", name := "close", desc := "()I" } : Jvm.MethodName) ({ cls := "TreeCodes", name := "close", desc := "()I" } : Jvm.MethodName)) ∈ lw_all := lw_g (lw_at lw_m1 53 rfl) rfl
theorem q69 : (Jvm.Cond.code ({ cls := "TreeCodes", name := "close", desc := "()I" } : Jvm.MethodName) prog_1_method_5_code (3 : Nat) (Option.some Jvm.ClassFile.FieldType.int)) ∈ lw_all := lw_g (lw_at lw_m1 54 rfl) rfl
theorem q70 : (Jvm.Cond.methodLink "TreeCodes" (42 : Nat) ({ cls := "TreeCodes", name := "openNodes", desc := "()I" } : Jvm.MethodName)) ∈ lw_all := lw_g (lw_at lw_m1 55 rfl) rfl
theorem q71 : (Jvm.Cond.instanceMethod ({ cls := "TreeCodes", name := "openNodes", desc := "()I" } : Jvm.MethodName)) ∈ lw_all := lw_g (lw_at lw_m1 56 rfl) rfl
theorem q72 : (Jvm.Cond.selects "TreeCodes" ({ cls := "TreeCodes", name := "openNodes", desc := "()I" } : Jvm.MethodName) ({ cls := "TreeCodes", name := "openNodes", desc := "()I" } : Jvm.MethodName)) ∈ lw_all := lw_g (lw_at lw_m1 57 rfl) rfl
theorem q73 : (Jvm.Cond.code ({ cls := "TreeCodes", name := "openNodes", desc := "()I" } : Jvm.MethodName) prog_1_method_10_code (1 : Nat) (Option.some Jvm.ClassFile.FieldType.int)) ∈ lw_all := lw_g (lw_at lw_m1 58 rfl) rfl
theorem q74 : (Jvm.Cond.methodLink "TreeCodes" (55 : Nat) ({ cls := "TreeCodes", name := "levelBefore", desc := "(I)I" } : Jvm.MethodName)) ∈ lw_all := lw_g (lw_at lw_m1 59 rfl) rfl
theorem q75 : (Jvm.Cond.privateMethod ({ cls := "TreeCodes", name := "levelBefore", desc := "(I)I" } : Jvm.MethodName)) ∈ lw_tbl := lw_at lw_m1 60 rfl
theorem q76 : (Jvm.Cond.instanceMethod ({ cls := "TreeCodes", name := "levelBefore", desc := "(I)I" } : Jvm.MethodName)) ∈ lw_all := lw_g (lw_at lw_m1 61 rfl) rfl
theorem q77 : (Jvm.Cond.code ({ cls := "TreeCodes", name := "levelBefore", desc := "(I)I" } : Jvm.MethodName) prog_1_method_9_code (3 : Nat) (Option.some Jvm.ClassFile.FieldType.int)) ∈ lw_all := lw_g (lw_at lw_m1 62 rfl) rfl
theorem q78 : (Jvm.Cond.methodLink "TreeCodes" (45 : Nat) ({ cls := "TreeCodes", name := "backTo", desc := "(II)I" } : Jvm.MethodName)) ∈ lw_all := lw_g (lw_at lw_m1 63 rfl) rfl
theorem q79 : (Jvm.Cond.privateMethod ({ cls := "TreeCodes", name := "backTo", desc := "(II)I" } : Jvm.MethodName)) ∈ lw_tbl := lw_at lw_m1 64 rfl
theorem q80 : (Jvm.Cond.instanceMethod ({ cls := "TreeCodes", name := "backTo", desc := "(II)I" } : Jvm.MethodName)) ∈ lw_all := lw_g (lw_at lw_m1 65 rfl) rfl
theorem q81 : (Jvm.Cond.code ({ cls := "TreeCodes", name := "backTo", desc := "(II)I" } : Jvm.MethodName) prog_1_method_14_code (7 : Nat) (Option.some Jvm.ClassFile.FieldType.int)) ∈ lw_all := lw_g (lw_at lw_m1 66 rfl) rfl
theorem q82 : (Jvm.Cond.constantLong "TreeCodes" (49 : Nat) (-1 : Int64)) ∈ lw_all := lw_g (lw_at lw_m1 67 rfl) rfl
theorem q84 : (Jvm.Cond.instanceMethod ({ cls := "TreeCodes", name := "undo", desc := "()I" } : Jvm.MethodName)) ∈ lw_all := lw_g (lw_at lw_m1 69 rfl) rfl
theorem q85 : (Jvm.Cond.selects "TreeCodes" ({ cls := "TreeCodes", name := "undo", desc := "()I" } : Jvm.MethodName) ({ cls := "TreeCodes", name := "undo", desc := "()I" } : Jvm.MethodName)) ∈ lw_all := lw_g (lw_at lw_m1 70 rfl) rfl
theorem q86 : (Jvm.Cond.code ({ cls := "TreeCodes", name := "undo", desc := "()I" } : Jvm.MethodName) prog_1_method_6_code (1 : Nat) (Option.some Jvm.ClassFile.FieldType.int)) ∈ lw_all := lw_g (lw_at lw_m1 71 rfl) rfl
theorem q90 : (Jvm.Cond.instanceMethod ({ cls := "TreeCodes", name := "parent", desc := "(I)I" } : Jvm.MethodName)) ∈ lw_all := lw_g (lw_at lw_m1 75 rfl) rfl
theorem q91 : (Jvm.Cond.selects "TreeCodes" ({ cls := "TreeCodes", name := "parent", desc := "(I)I" } : Jvm.MethodName) ({ cls := "TreeCodes", name := "parent", desc := "(I)I" } : Jvm.MethodName)) ∈ lw_all := lw_g (lw_at lw_m1 76 rfl) rfl
theorem q92 : (Jvm.Cond.code ({ cls := "TreeCodes", name := "parent", desc := "(I)I" } : Jvm.MethodName) prog_1_method_15_code (5 : Nat) (Option.some Jvm.ClassFile.FieldType.int)) ∈ lw_all := lw_g (lw_at lw_m1 77 rfl) rfl
theorem q93 : (Jvm.Cond.methodLink "TreeCodes" (58 : Nat) ({ cls := "TreeCodes", name := "isNode", desc := "(I)Z" } : Jvm.MethodName)) ∈ lw_all := lw_g (lw_at lw_m1 78 rfl) rfl
theorem q94 : (Jvm.Cond.privateMethod ({ cls := "TreeCodes", name := "isNode", desc := "(I)Z" } : Jvm.MethodName)) ∈ lw_tbl := lw_at lw_m1 79 rfl
theorem q95 : (Jvm.Cond.instanceMethod ({ cls := "TreeCodes", name := "isNode", desc := "(I)Z" } : Jvm.MethodName)) ∈ lw_all := lw_g (lw_at lw_m1 80 rfl) rfl
theorem q96 : (Jvm.Cond.code ({ cls := "TreeCodes", name := "isNode", desc := "(I)Z" } : Jvm.MethodName) prog_1_method_11_code (2 : Nat) (Option.some Jvm.ClassFile.FieldType.boolean)) ∈ lw_all := lw_g (lw_at lw_m1 81 rfl) rfl
theorem q97 : (Jvm.Cond.methodLink "TreeCodes" (61 : Nat) ({ cls := "TreeCodes", name := "placeOf", desc := "(I)I" } : Jvm.MethodName)) ∈ lw_all := lw_g (lw_at lw_m1 82 rfl) rfl
theorem q98 : (Jvm.Cond.privateMethod ({ cls := "TreeCodes", name := "placeOf", desc := "(I)I" } : Jvm.MethodName)) ∈ lw_tbl := lw_at lw_m1 83 rfl
theorem q99 : (Jvm.Cond.instanceMethod ({ cls := "TreeCodes", name := "placeOf", desc := "(I)I" } : Jvm.MethodName)) ∈ lw_all := lw_g (lw_at lw_m1 84 rfl) rfl
theorem q100 : (Jvm.Cond.code ({ cls := "TreeCodes", name := "placeOf", desc := "(I)I" } : Jvm.MethodName) prog_1_method_12_code (5 : Nat) (Option.some Jvm.ClassFile.FieldType.int)) ∈ lw_all := lw_g (lw_at lw_m1 85 rfl) rfl
theorem q102 : (Jvm.Cond.instanceMethod ({ cls := "TreeCodes", name := "depth", desc := "(I)I" } : Jvm.MethodName)) ∈ lw_all := lw_g (lw_at lw_m1 87 rfl) rfl
theorem q103 : (Jvm.Cond.selects "TreeCodes" ({ cls := "TreeCodes", name := "depth", desc := "(I)I" } : Jvm.MethodName) ({ cls := "TreeCodes", name := "depth", desc := "(I)I" } : Jvm.MethodName)) ∈ lw_all := lw_g (lw_at lw_m1 88 rfl) rfl
theorem q104 : (Jvm.Cond.code ({ cls := "TreeCodes", name := "depth", desc := "(I)I" } : Jvm.MethodName) prog_1_method_16_code (3 : Nat) (Option.some Jvm.ClassFile.FieldType.int)) ∈ lw_all := lw_g (lw_at lw_m1 89 rfl) rfl
theorem q106 : (Jvm.Cond.instanceMethod ({ cls := "TreeCodes", name := "size", desc := "(I)I" } : Jvm.MethodName)) ∈ lw_all := lw_g (lw_at lw_m1 91 rfl) rfl
theorem q107 : (Jvm.Cond.selects "TreeCodes" ({ cls := "TreeCodes", name := "size", desc := "(I)I" } : Jvm.MethodName) ({ cls := "TreeCodes", name := "size", desc := "(I)I" } : Jvm.MethodName)) ∈ lw_all := lw_g (lw_at lw_m1 92 rfl) rfl
theorem q108 : (Jvm.Cond.code ({ cls := "TreeCodes", name := "size", desc := "(I)I" } : Jvm.MethodName) prog_1_method_18_code (4 : Nat) (Option.some Jvm.ClassFile.FieldType.int)) ∈ lw_all := lw_g (lw_at lw_m1 93 rfl) rfl
theorem q109 : (Jvm.Cond.methodLink "TreeCodes" (67 : Nat) ({ cls := "TreeCodes", name := "endOf", desc := "(I)I" } : Jvm.MethodName)) ∈ lw_all := lw_g (lw_at lw_m1 94 rfl) rfl
theorem q110 : (Jvm.Cond.privateMethod ({ cls := "TreeCodes", name := "endOf", desc := "(I)I" } : Jvm.MethodName)) ∈ lw_tbl := lw_at lw_m1 95 rfl
theorem q111 : (Jvm.Cond.instanceMethod ({ cls := "TreeCodes", name := "endOf", desc := "(I)I" } : Jvm.MethodName)) ∈ lw_all := lw_g (lw_at lw_m1 96 rfl) rfl
theorem q112 : (Jvm.Cond.code ({ cls := "TreeCodes", name := "endOf", desc := "(I)I" } : Jvm.MethodName) prog_1_method_17_code (3 : Nat) (Option.some Jvm.ClassFile.FieldType.int)) ∈ lw_all := lw_g (lw_at lw_m1 97 rfl) rfl
theorem q113 : (Jvm.Cond.methodLink "TreeCodes" (64 : Nat) ({ cls := "TreeCodes", name := "forwardTo", desc := "(II)I" } : Jvm.MethodName)) ∈ lw_all := lw_g (lw_at lw_m1 98 rfl) rfl
theorem q114 : (Jvm.Cond.privateMethod ({ cls := "TreeCodes", name := "forwardTo", desc := "(II)I" } : Jvm.MethodName)) ∈ lw_tbl := lw_at lw_m1 99 rfl
theorem q115 : (Jvm.Cond.instanceMethod ({ cls := "TreeCodes", name := "forwardTo", desc := "(II)I" } : Jvm.MethodName)) ∈ lw_all := lw_g (lw_at lw_m1 100 rfl) rfl
theorem q116 : (Jvm.Cond.code ({ cls := "TreeCodes", name := "forwardTo", desc := "(II)I" } : Jvm.MethodName) prog_1_method_13_code (7 : Nat) (Option.some Jvm.ClassFile.FieldType.int)) ∈ lw_all := lw_g (lw_at lw_m1 101 rfl) rfl
theorem q118 : (Jvm.Cond.instanceMethod ({ cls := "TreeCodes", name := "children", desc := "(I)I" } : Jvm.MethodName)) ∈ lw_all := lw_g (lw_at lw_m1 103 rfl) rfl
theorem q119 : (Jvm.Cond.selects "TreeCodes" ({ cls := "TreeCodes", name := "children", desc := "(I)I" } : Jvm.MethodName) ({ cls := "TreeCodes", name := "children", desc := "(I)I" } : Jvm.MethodName)) ∈ lw_all := lw_g (lw_at lw_m1 104 rfl) rfl
theorem q120 : (Jvm.Cond.code ({ cls := "TreeCodes", name := "children", desc := "(I)I" } : Jvm.MethodName) prog_1_method_20_code (5 : Nat) (Option.some Jvm.ClassFile.FieldType.int)) ∈ lw_all := lw_g (lw_at lw_m1 105 rfl) rfl
theorem q121 : (Jvm.Cond.methodLink "TreeCodes" (70 : Nat) ({ cls := "TreeCodes", name := "child", desc := "(II)I" } : Jvm.MethodName)) ∈ lw_all := lw_g (lw_at lw_m1 106 rfl) rfl
theorem q122 : (Jvm.Cond.instanceMethod ({ cls := "TreeCodes", name := "child", desc := "(II)I" } : Jvm.MethodName)) ∈ lw_all := lw_g (lw_at lw_m1 107 rfl) rfl
theorem q123 : (Jvm.Cond.selects "TreeCodes" ({ cls := "TreeCodes", name := "child", desc := "(II)I" } : Jvm.MethodName) ({ cls := "TreeCodes", name := "child", desc := "(II)I" } : Jvm.MethodName)) ∈ lw_all := lw_g (lw_at lw_m1 108 rfl) rfl
theorem q124 : (Jvm.Cond.code ({ cls := "TreeCodes", name := "child", desc := "(II)I" } : Jvm.MethodName) prog_1_method_21_code (6 : Nat) (Option.some Jvm.ClassFile.FieldType.int)) ∈ lw_all := lw_g (lw_at lw_m1 109 rfl) rfl
theorem q125 : (Jvm.Cond.methodLink "TreeCodes" (76 : Nat) ({ cls := "TreeCodes", name := "nodeAt", desc := "(I)I" } : Jvm.MethodName)) ∈ lw_all := lw_g (lw_at lw_m1 110 rfl) rfl
theorem q126 : (Jvm.Cond.privateMethod ({ cls := "TreeCodes", name := "nodeAt", desc := "(I)I" } : Jvm.MethodName)) ∈ lw_tbl := lw_at lw_m1 111 rfl
theorem q127 : (Jvm.Cond.instanceMethod ({ cls := "TreeCodes", name := "nodeAt", desc := "(I)I" } : Jvm.MethodName)) ∈ lw_all := lw_g (lw_at lw_m1 112 rfl) rfl
theorem q128 : (Jvm.Cond.code ({ cls := "TreeCodes", name := "nodeAt", desc := "(I)I" } : Jvm.MethodName) prog_1_method_19_code (2 : Nat) (Option.some Jvm.ClassFile.FieldType.int)) ∈ lw_all := lw_g (lw_at lw_m1 113 rfl) rfl
theorem q129 : (Jvm.Cond.methodLink "TreeCodes" (73 : Nat) ({ cls := "TreeCodes", name := "next", desc := "(I)I" } : Jvm.MethodName)) ∈ lw_all := lw_g (lw_at lw_m1 114 rfl) rfl
theorem q130 : (Jvm.Cond.instanceMethod ({ cls := "TreeCodes", name := "next", desc := "(I)I" } : Jvm.MethodName)) ∈ lw_all := lw_g (lw_at lw_m1 115 rfl) rfl
theorem q131 : (Jvm.Cond.selects "TreeCodes" ({ cls := "TreeCodes", name := "next", desc := "(I)I" } : Jvm.MethodName) ({ cls := "TreeCodes", name := "next", desc := "(I)I" } : Jvm.MethodName)) ∈ lw_all := lw_g (lw_at lw_m1 116 rfl) rfl
theorem q132 : (Jvm.Cond.code ({ cls := "TreeCodes", name := "next", desc := "(I)I" } : Jvm.MethodName) prog_1_method_22_code (4 : Nat) (Option.some Jvm.ClassFile.FieldType.int)) ∈ lw_all := lw_g (lw_at lw_m1 117 rfl) rfl
theorem q136 : (Jvm.Cond.instanceMethod ({ cls := "TreeCodes", name := "previous", desc := "(I)I" } : Jvm.MethodName)) ∈ lw_all := lw_g (lw_at lw_m1 121 rfl) rfl
theorem q137 : (Jvm.Cond.selects "TreeCodes" ({ cls := "TreeCodes", name := "previous", desc := "(I)I" } : Jvm.MethodName) ({ cls := "TreeCodes", name := "previous", desc := "(I)I" } : Jvm.MethodName)) ∈ lw_all := lw_g (lw_at lw_m1 122 rfl) rfl
theorem q138 : (Jvm.Cond.code ({ cls := "TreeCodes", name := "previous", desc := "(I)I" } : Jvm.MethodName) prog_1_method_23_code (5 : Nat) (Option.some Jvm.ClassFile.FieldType.int)) ∈ lw_all := lw_g (lw_at lw_m1 123 rfl) rfl
theorem q140 : (Jvm.Cond.instanceMethod ({ cls := "TreeCodes", name := "meet", desc := "(II)I" } : Jvm.MethodName)) ∈ lw_all := lw_g (lw_at lw_m1 125 rfl) rfl
theorem q141 : (Jvm.Cond.selects "TreeCodes" ({ cls := "TreeCodes", name := "meet", desc := "(II)I" } : Jvm.MethodName) ({ cls := "TreeCodes", name := "meet", desc := "(II)I" } : Jvm.MethodName)) ∈ lw_all := lw_g (lw_at lw_m1 126 rfl) rfl
theorem q142 : (Jvm.Cond.code ({ cls := "TreeCodes", name := "meet", desc := "(II)I" } : Jvm.MethodName) prog_1_method_24_code (9 : Nat) (Option.some Jvm.ClassFile.FieldType.int)) ∈ lw_all := lw_g (lw_at lw_m1 127 rfl) rfl
theorem q143 : (Jvm.Cond.methodLink "TreeCodes" (79 : Nat) ({ cls := "TreeCodes", name := "leastBetween", desc := "(II)I" } : Jvm.MethodName)) ∈ lw_all := lw_g (lw_at lw_m1 128 rfl) rfl
theorem q144 : (Jvm.Cond.privateMethod ({ cls := "TreeCodes", name := "leastBetween", desc := "(II)I" } : Jvm.MethodName)) ∈ lw_tbl := lw_at lw_m1 129 rfl
theorem q145 : (Jvm.Cond.instanceMethod ({ cls := "TreeCodes", name := "leastBetween", desc := "(II)I" } : Jvm.MethodName)) ∈ lw_all := lw_g (lw_at lw_m1 130 rfl) rfl
theorem q146 : (Jvm.Cond.code ({ cls := "TreeCodes", name := "leastBetween", desc := "(II)I" } : Jvm.MethodName) prog_1_method_26_code (7 : Nat) (Option.some Jvm.ClassFile.FieldType.int)) ∈ lw_all := lw_g (lw_at lw_m1 131 rfl) rfl
theorem q147 : (Jvm.Cond.methodLink "TreeCodes" (82 : Nat) ({ cls := "TreeCodes", name := "aboveAt", desc := "(II)I" } : Jvm.MethodName)) ∈ lw_all := lw_g (lw_at lw_m1 132 rfl) rfl
theorem q148 : (Jvm.Cond.instanceMethod ({ cls := "TreeCodes", name := "aboveAt", desc := "(II)I" } : Jvm.MethodName)) ∈ lw_all := lw_g (lw_at lw_m1 133 rfl) rfl
theorem q149 : (Jvm.Cond.selects "TreeCodes" ({ cls := "TreeCodes", name := "aboveAt", desc := "(II)I" } : Jvm.MethodName) ({ cls := "TreeCodes", name := "aboveAt", desc := "(II)I" } : Jvm.MethodName)) ∈ lw_all := lw_g (lw_at lw_m1 134 rfl) rfl
theorem q150 : (Jvm.Cond.code ({ cls := "TreeCodes", name := "aboveAt", desc := "(II)I" } : Jvm.MethodName) prog_1_method_25_code (6 : Nat) (Option.some Jvm.ClassFile.FieldType.int)) ∈ lw_all := lw_g (lw_at lw_m1 135 rfl) rfl
theorem q153 : (Jvm.Cond.instanceMethod ({ cls := "TreeCodes", name := "height", desc := "(I)I" } : Jvm.MethodName)) ∈ lw_all := lw_g (lw_at lw_m1 138 rfl) rfl
theorem q154 : (Jvm.Cond.selects "TreeCodes" ({ cls := "TreeCodes", name := "height", desc := "(I)I" } : Jvm.MethodName) ({ cls := "TreeCodes", name := "height", desc := "(I)I" } : Jvm.MethodName)) ∈ lw_all := lw_g (lw_at lw_m1 139 rfl) rfl
theorem q155 : (Jvm.Cond.code ({ cls := "TreeCodes", name := "height", desc := "(I)I" } : Jvm.MethodName) prog_1_method_27_code (9 : Nat) (Option.some Jvm.ClassFile.FieldType.int)) ∈ lw_all := lw_g (lw_at lw_m1 140 rfl) rfl
theorem q157 : (Jvm.Cond.instanceMethod ({ cls := "TreeCodes", name := "leavesBefore", desc := "(I)I" } : Jvm.MethodName)) ∈ lw_all := lw_g (lw_at lw_m1 142 rfl) rfl
theorem q158 : (Jvm.Cond.selects "TreeCodes" ({ cls := "TreeCodes", name := "leavesBefore", desc := "(I)I" } : Jvm.MethodName) ({ cls := "TreeCodes", name := "leavesBefore", desc := "(I)I" } : Jvm.MethodName)) ∈ lw_all := lw_g (lw_at lw_m1 143 rfl) rfl
theorem q159 : (Jvm.Cond.code ({ cls := "TreeCodes", name := "leavesBefore", desc := "(I)I" } : Jvm.MethodName) prog_1_method_28_code (5 : Nat) (Option.some Jvm.ClassFile.FieldType.int)) ∈ lw_all := lw_g (lw_at lw_m1 144 rfl) rfl
theorem in_X0 : ∀ w ∈ wsX00, w ∈ lw_all := lw_in wsX00 [32, 34, 36, 38, 40, 42] (by decide +kernel) (by decide +kernel)
end
section
/-! TreeCodesModel -/
set_option maxRecDepth 100000
def RX1 : String := "TreeCodesModel"
def TX1 : u_T := fun k => match k with
  | 0 => ("TreeCodesModel", "size", "I", false)
  | 1 => ("TreeCodesModel", "opens", "[Z", false)
  | 2 => ("TreeCodesModel", "count", "I", false)
  | 3 => ("TreeCodesModel", "last", "I", false)
  | 4 => ("TreeCodesModel", "up", "[I", false)
  | _ => ("TreeCodesModel", "deep", "[I", false)
def tyX1 : Nat → FieldType := fun k => match k with
  | 0 => .int
  | 1 => .array .boolean
  | 2 => .int
  | 3 => .int
  | 4 => .array .int
  | _ => .array .int
abbrev wsX10 : List Cond := u_ws RX1 TX1 6
theorem nmX1 : ∀ a, a < 6 → ∀ b, b < 6 → a ≠ b → (TX1 a).2.1 ≠ (TX1 b).2.1 := by decide +kernel
theorem tyX1_ok : ∀ k, k < 6 → parseFieldDescriptor (TX1 k).2.2.1 = some (tyX1 k) := by decide +kernel
abbrev cX1_init : ByteArray := prog_3_method_1_code
def yX1_init : MethodName := ⟨RX1, "<init>", "()V"⟩
theorem dX1_init_0 : decode cX1_init 0 = .ok (.aload_n 0, 1) := by decide +kernel
theorem dX1_init_1 : decode cX1_init 1 = .ok (.invokespecial 1, 3) := by decide +kernel
theorem dX1_init_4 : decode cX1_init 4 = .ok (.aload_n 0, 1) := by decide +kernel
theorem dX1_init_5 : decode cX1_init 5 = .ok (.bipush 64, 2) := by decide +kernel
theorem dX1_init_7 : decode cX1_init 7 = .ok (.newarray .boolean, 2) := by decide +kernel
theorem dX1_init_9 : decode cX1_init 9 = .ok (.putfield 7, 3) := by decide +kernel
theorem dX1_init_12 : decode cX1_init 12 = .ok (.aload_n 0, 1) := by decide +kernel
theorem dX1_init_13 : decode cX1_init 13 = .ok (.bipush 64, 2) := by decide +kernel
theorem dX1_init_15 : decode cX1_init 15 = .ok (.newarray .int, 2) := by decide +kernel
theorem dX1_init_17 : decode cX1_init 17 = .ok (.putfield 13, 3) := by decide +kernel
theorem dX1_init_20 : decode cX1_init 20 = .ok (.aload_n 0, 1) := by decide +kernel
theorem dX1_init_21 : decode cX1_init 21 = .ok (.bipush 64, 2) := by decide +kernel
theorem dX1_init_23 : decode cX1_init 23 = .ok (.newarray .int, 2) := by decide +kernel
theorem dX1_init_25 : decode cX1_init 25 = .ok (.putfield 17, 3) := by decide +kernel
theorem dX1_init_28 : decode cX1_init 28 = .ok (.return_, 1) := by decide +kernel
abbrev cX1_open : ByteArray := prog_3_method_3_code
def yX1_open : MethodName := ⟨RX1, "open", "()I"⟩
theorem dX1_open_0 : decode cX1_open 0 = .ok (.aload_n 0, 1) := by decide +kernel
theorem dX1_open_1 : decode cX1_open 1 = .ok (.getfield 27, 3) := by decide +kernel
theorem dX1_open_4 : decode cX1_open 4 = .ok (.bipush 64, 2) := by decide +kernel
theorem dX1_open_6 : decode cX1_open 6 = .ok (.if_icmp .lt 6, 3) := by decide +kernel
theorem dX1_open_9 : decode cX1_open 9 = .ok (.bipush (-2), 2) := by decide +kernel
theorem dX1_open_11 : decode cX1_open 11 = .ok (.ireturn, 1) := by decide +kernel
theorem dX1_open_12 : decode cX1_open 12 = .ok (.aload_n 0, 1) := by decide +kernel
theorem dX1_open_13 : decode cX1_open 13 = .ok (.getfield 7, 3) := by decide +kernel
theorem dX1_open_16 : decode cX1_open 16 = .ok (.aload_n 0, 1) := by decide +kernel
theorem dX1_open_17 : decode cX1_open 17 = .ok (.getfield 27, 3) := by decide +kernel
theorem dX1_open_20 : decode cX1_open 20 = .ok (.iconst 1, 1) := by decide +kernel
theorem dX1_open_21 : decode cX1_open 21 = .ok (.bastore, 1) := by decide +kernel
theorem dX1_open_22 : decode cX1_open 22 = .ok (.aload_n 0, 1) := by decide +kernel
theorem dX1_open_23 : decode cX1_open 23 = .ok (.dup, 1) := by decide +kernel
theorem dX1_open_24 : decode cX1_open 24 = .ok (.getfield 27, 3) := by decide +kernel
theorem dX1_open_27 : decode cX1_open 27 = .ok (.iconst 1, 1) := by decide +kernel
theorem dX1_open_28 : decode cX1_open 28 = .ok (.iadd, 1) := by decide +kernel
theorem dX1_open_29 : decode cX1_open 29 = .ok (.putfield 27, 3) := by decide +kernel
theorem dX1_open_32 : decode cX1_open 32 = .ok (.aload_n 0, 1) := by decide +kernel
theorem dX1_open_33 : decode cX1_open 33 = .ok (.invokevirtual 30, 3) := by decide +kernel
theorem dX1_open_36 : decode cX1_open 36 = .ok (.aload_n 0, 1) := by decide +kernel
theorem dX1_open_37 : decode cX1_open 37 = .ok (.getfield 20, 3) := by decide +kernel
theorem dX1_open_40 : decode cX1_open 40 = .ok (.iconst 1, 1) := by decide +kernel
theorem dX1_open_41 : decode cX1_open 41 = .ok (.isub, 1) := by decide +kernel
theorem dX1_open_42 : decode cX1_open 42 = .ok (.ireturn, 1) := by decide +kernel
abbrev cX1_work : ByteArray := prog_3_method_2_code
def yX1_work : MethodName := ⟨RX1, "work", "()V"⟩
theorem dX1_work_0 : decode cX1_work 0 = .ok (.aload_n 0, 1) := by decide +kernel
theorem dX1_work_1 : decode cX1_work 1 = .ok (.iconst 0, 1) := by decide +kernel
theorem dX1_work_2 : decode cX1_work 2 = .ok (.putfield 20, 3) := by decide +kernel
theorem dX1_work_5 : decode cX1_work 5 = .ok (.aload_n 0, 1) := by decide +kernel
theorem dX1_work_6 : decode cX1_work 6 = .ok (.iconst (-1), 1) := by decide +kernel
theorem dX1_work_7 : decode cX1_work 7 = .ok (.putfield 24, 3) := by decide +kernel
theorem dX1_work_10 : decode cX1_work 10 = .ok (.iconst 0, 1) := by decide +kernel
theorem dX1_work_11 : decode cX1_work 11 = .ok (.istore_n 1, 1) := by decide +kernel
theorem dX1_work_12 : decode cX1_work 12 = .ok (.iload_n 1, 1) := by decide +kernel
theorem dX1_work_13 : decode cX1_work 13 = .ok (.aload_n 0, 1) := by decide +kernel
theorem dX1_work_14 : decode cX1_work 14 = .ok (.getfield 27, 3) := by decide +kernel
theorem dX1_work_17 : decode cX1_work 17 = .ok (.if_icmp .ge 103, 3) := by decide +kernel
theorem dX1_work_20 : decode cX1_work 20 = .ok (.aload_n 0, 1) := by decide +kernel
theorem dX1_work_21 : decode cX1_work 21 = .ok (.getfield 7, 3) := by decide +kernel
theorem dX1_work_24 : decode cX1_work 24 = .ok (.iload_n 1, 1) := by decide +kernel
theorem dX1_work_25 : decode cX1_work 25 = .ok (.baload, 1) := by decide +kernel
theorem dX1_work_26 : decode cX1_work 26 = .ok (.ifCond .eq 68, 3) := by decide +kernel
theorem dX1_work_29 : decode cX1_work 29 = .ok (.aload_n 0, 1) := by decide +kernel
theorem dX1_work_30 : decode cX1_work 30 = .ok (.getfield 13, 3) := by decide +kernel
theorem dX1_work_33 : decode cX1_work 33 = .ok (.aload_n 0, 1) := by decide +kernel
theorem dX1_work_34 : decode cX1_work 34 = .ok (.getfield 20, 3) := by decide +kernel
theorem dX1_work_37 : decode cX1_work 37 = .ok (.aload_n 0, 1) := by decide +kernel
theorem dX1_work_38 : decode cX1_work 38 = .ok (.getfield 24, 3) := by decide +kernel
theorem dX1_work_41 : decode cX1_work 41 = .ok (.iastore, 1) := by decide +kernel
theorem dX1_work_42 : decode cX1_work 42 = .ok (.aload_n 0, 1) := by decide +kernel
theorem dX1_work_43 : decode cX1_work 43 = .ok (.getfield 17, 3) := by decide +kernel
theorem dX1_work_46 : decode cX1_work 46 = .ok (.aload_n 0, 1) := by decide +kernel
theorem dX1_work_47 : decode cX1_work 47 = .ok (.getfield 20, 3) := by decide +kernel
theorem dX1_work_50 : decode cX1_work 50 = .ok (.aload_n 0, 1) := by decide +kernel
theorem dX1_work_51 : decode cX1_work 51 = .ok (.getfield 24, 3) := by decide +kernel
theorem dX1_work_54 : decode cX1_work 54 = .ok (.ifCond .ge 7, 3) := by decide +kernel
theorem dX1_work_57 : decode cX1_work 57 = .ok (.iconst 0, 1) := by decide +kernel
theorem dX1_work_58 : decode cX1_work 58 = .ok (.goto 14, 3) := by decide +kernel
theorem dX1_work_61 : decode cX1_work 61 = .ok (.aload_n 0, 1) := by decide +kernel
theorem dX1_work_62 : decode cX1_work 62 = .ok (.getfield 17, 3) := by decide +kernel
theorem dX1_work_65 : decode cX1_work 65 = .ok (.aload_n 0, 1) := by decide +kernel
theorem dX1_work_66 : decode cX1_work 66 = .ok (.getfield 24, 3) := by decide +kernel
theorem dX1_work_69 : decode cX1_work 69 = .ok (.iaload, 1) := by decide +kernel
theorem dX1_work_70 : decode cX1_work 70 = .ok (.iconst 1, 1) := by decide +kernel
theorem dX1_work_71 : decode cX1_work 71 = .ok (.iadd, 1) := by decide +kernel
theorem dX1_work_72 : decode cX1_work 72 = .ok (.iastore, 1) := by decide +kernel
theorem dX1_work_73 : decode cX1_work 73 = .ok (.aload_n 0, 1) := by decide +kernel
theorem dX1_work_74 : decode cX1_work 74 = .ok (.aload_n 0, 1) := by decide +kernel
theorem dX1_work_75 : decode cX1_work 75 = .ok (.getfield 20, 3) := by decide +kernel
theorem dX1_work_78 : decode cX1_work 78 = .ok (.putfield 24, 3) := by decide +kernel
theorem dX1_work_81 : decode cX1_work 81 = .ok (.aload_n 0, 1) := by decide +kernel
theorem dX1_work_82 : decode cX1_work 82 = .ok (.dup, 1) := by decide +kernel
theorem dX1_work_83 : decode cX1_work 83 = .ok (.getfield 20, 3) := by decide +kernel
theorem dX1_work_86 : decode cX1_work 86 = .ok (.iconst 1, 1) := by decide +kernel
theorem dX1_work_87 : decode cX1_work 87 = .ok (.iadd, 1) := by decide +kernel
theorem dX1_work_88 : decode cX1_work 88 = .ok (.putfield 20, 3) := by decide +kernel
theorem dX1_work_91 : decode cX1_work 91 = .ok (.goto 23, 3) := by decide +kernel
theorem dX1_work_94 : decode cX1_work 94 = .ok (.aload_n 0, 1) := by decide +kernel
theorem dX1_work_95 : decode cX1_work 95 = .ok (.getfield 24, 3) := by decide +kernel
theorem dX1_work_98 : decode cX1_work 98 = .ok (.ifCond .lt 16, 3) := by decide +kernel
theorem dX1_work_101 : decode cX1_work 101 = .ok (.aload_n 0, 1) := by decide +kernel
theorem dX1_work_102 : decode cX1_work 102 = .ok (.aload_n 0, 1) := by decide +kernel
theorem dX1_work_103 : decode cX1_work 103 = .ok (.getfield 13, 3) := by decide +kernel
theorem dX1_work_106 : decode cX1_work 106 = .ok (.aload_n 0, 1) := by decide +kernel
theorem dX1_work_107 : decode cX1_work 107 = .ok (.getfield 24, 3) := by decide +kernel
theorem dX1_work_110 : decode cX1_work 110 = .ok (.iaload, 1) := by decide +kernel
theorem dX1_work_111 : decode cX1_work 111 = .ok (.putfield 24, 3) := by decide +kernel
theorem dX1_work_114 : decode cX1_work 114 = .ok (.iinc 1 1, 3) := by decide +kernel
theorem dX1_work_117 : decode cX1_work 117 = .ok (.goto (-105), 3) := by decide +kernel
theorem dX1_work_120 : decode cX1_work 120 = .ok (.return_, 1) := by decide +kernel
abbrev cX1_close : ByteArray := prog_3_method_4_code
def yX1_close : MethodName := ⟨RX1, "close", "()I"⟩
theorem dX1_close_0 : decode cX1_close 0 = .ok (.aload_n 0, 1) := by decide +kernel
theorem dX1_close_1 : decode cX1_close 1 = .ok (.invokevirtual 30, 3) := by decide +kernel
theorem dX1_close_4 : decode cX1_close 4 = .ok (.aload_n 0, 1) := by decide +kernel
theorem dX1_close_5 : decode cX1_close 5 = .ok (.getfield 24, 3) := by decide +kernel
theorem dX1_close_8 : decode cX1_close 8 = .ok (.ifCond .ge 5, 3) := by decide +kernel
theorem dX1_close_11 : decode cX1_close 11 = .ok (.iconst (-1), 1) := by decide +kernel
theorem dX1_close_12 : decode cX1_close 12 = .ok (.ireturn, 1) := by decide +kernel
theorem dX1_close_13 : decode cX1_close 13 = .ok (.aload_n 0, 1) := by decide +kernel
theorem dX1_close_14 : decode cX1_close 14 = .ok (.getfield 27, 3) := by decide +kernel
theorem dX1_close_17 : decode cX1_close 17 = .ok (.bipush 64, 2) := by decide +kernel
theorem dX1_close_19 : decode cX1_close 19 = .ok (.if_icmp .lt 6, 3) := by decide +kernel
theorem dX1_close_22 : decode cX1_close 22 = .ok (.bipush (-2), 2) := by decide +kernel
theorem dX1_close_24 : decode cX1_close 24 = .ok (.ireturn, 1) := by decide +kernel
theorem dX1_close_25 : decode cX1_close 25 = .ok (.aload_n 0, 1) := by decide +kernel
theorem dX1_close_26 : decode cX1_close 26 = .ok (.getfield 7, 3) := by decide +kernel
theorem dX1_close_29 : decode cX1_close 29 = .ok (.aload_n 0, 1) := by decide +kernel
theorem dX1_close_30 : decode cX1_close 30 = .ok (.getfield 27, 3) := by decide +kernel
theorem dX1_close_33 : decode cX1_close 33 = .ok (.iconst 0, 1) := by decide +kernel
theorem dX1_close_34 : decode cX1_close 34 = .ok (.bastore, 1) := by decide +kernel
theorem dX1_close_35 : decode cX1_close 35 = .ok (.aload_n 0, 1) := by decide +kernel
theorem dX1_close_36 : decode cX1_close 36 = .ok (.dup, 1) := by decide +kernel
theorem dX1_close_37 : decode cX1_close 37 = .ok (.getfield 27, 3) := by decide +kernel
theorem dX1_close_40 : decode cX1_close 40 = .ok (.iconst 1, 1) := by decide +kernel
theorem dX1_close_41 : decode cX1_close 41 = .ok (.iadd, 1) := by decide +kernel
theorem dX1_close_42 : decode cX1_close 42 = .ok (.putfield 27, 3) := by decide +kernel
theorem dX1_close_45 : decode cX1_close 45 = .ok (.aload_n 0, 1) := by decide +kernel
theorem dX1_close_46 : decode cX1_close 46 = .ok (.getfield 24, 3) := by decide +kernel
theorem dX1_close_49 : decode cX1_close 49 = .ok (.ireturn, 1) := by decide +kernel
abbrev cX1_undo : ByteArray := prog_3_method_5_code
def yX1_undo : MethodName := ⟨RX1, "undo", "()I"⟩
theorem dX1_undo_0 : decode cX1_undo 0 = .ok (.aload_n 0, 1) := by decide +kernel
theorem dX1_undo_1 : decode cX1_undo 1 = .ok (.getfield 27, 3) := by decide +kernel
theorem dX1_undo_4 : decode cX1_undo 4 = .ok (.ifCond .ne 5, 3) := by decide +kernel
theorem dX1_undo_7 : decode cX1_undo 7 = .ok (.iconst (-1), 1) := by decide +kernel
theorem dX1_undo_8 : decode cX1_undo 8 = .ok (.ireturn, 1) := by decide +kernel
theorem dX1_undo_9 : decode cX1_undo 9 = .ok (.aload_n 0, 1) := by decide +kernel
theorem dX1_undo_10 : decode cX1_undo 10 = .ok (.dup, 1) := by decide +kernel
theorem dX1_undo_11 : decode cX1_undo 11 = .ok (.getfield 27, 3) := by decide +kernel
theorem dX1_undo_14 : decode cX1_undo 14 = .ok (.iconst 1, 1) := by decide +kernel
theorem dX1_undo_15 : decode cX1_undo 15 = .ok (.isub, 1) := by decide +kernel
theorem dX1_undo_16 : decode cX1_undo 16 = .ok (.putfield 27, 3) := by decide +kernel
theorem dX1_undo_19 : decode cX1_undo 19 = .ok (.aload_n 0, 1) := by decide +kernel
theorem dX1_undo_20 : decode cX1_undo 20 = .ok (.getfield 27, 3) := by decide +kernel
theorem dX1_undo_23 : decode cX1_undo 23 = .ok (.ireturn, 1) := by decide +kernel
abbrev cX1_nodes : ByteArray := prog_3_method_6_code
def yX1_nodes : MethodName := ⟨RX1, "nodes", "()I"⟩
theorem dX1_nodes_0 : decode cX1_nodes 0 = .ok (.aload_n 0, 1) := by decide +kernel
theorem dX1_nodes_1 : decode cX1_nodes 1 = .ok (.invokevirtual 30, 3) := by decide +kernel
theorem dX1_nodes_4 : decode cX1_nodes 4 = .ok (.aload_n 0, 1) := by decide +kernel
theorem dX1_nodes_5 : decode cX1_nodes 5 = .ok (.getfield 20, 3) := by decide +kernel
theorem dX1_nodes_8 : decode cX1_nodes 8 = .ok (.ireturn, 1) := by decide +kernel
abbrev cX1_openNodes : ByteArray := prog_3_method_7_code
def yX1_openNodes : MethodName := ⟨RX1, "openNodes", "()I"⟩
theorem dX1_openNodes_0 : decode cX1_openNodes 0 = .ok (.aload_n 0, 1) := by decide +kernel
theorem dX1_openNodes_1 : decode cX1_openNodes 1 = .ok (.invokevirtual 30, 3) := by decide +kernel
theorem dX1_openNodes_4 : decode cX1_openNodes 4 = .ok (.aload_n 0, 1) := by decide +kernel
theorem dX1_openNodes_5 : decode cX1_openNodes 5 = .ok (.getfield 24, 3) := by decide +kernel
theorem dX1_openNodes_8 : decode cX1_openNodes 8 = .ok (.ifCond .ge 7, 3) := by decide +kernel
theorem dX1_openNodes_11 : decode cX1_openNodes 11 = .ok (.iconst 0, 1) := by decide +kernel
theorem dX1_openNodes_12 : decode cX1_openNodes 12 = .ok (.goto 14, 3) := by decide +kernel
theorem dX1_openNodes_15 : decode cX1_openNodes 15 = .ok (.aload_n 0, 1) := by decide +kernel
theorem dX1_openNodes_16 : decode cX1_openNodes 16 = .ok (.getfield 17, 3) := by decide +kernel
theorem dX1_openNodes_19 : decode cX1_openNodes 19 = .ok (.aload_n 0, 1) := by decide +kernel
theorem dX1_openNodes_20 : decode cX1_openNodes 20 = .ok (.getfield 24, 3) := by decide +kernel
theorem dX1_openNodes_23 : decode cX1_openNodes 23 = .ok (.iaload, 1) := by decide +kernel
theorem dX1_openNodes_24 : decode cX1_openNodes 24 = .ok (.iconst 1, 1) := by decide +kernel
theorem dX1_openNodes_25 : decode cX1_openNodes 25 = .ok (.iadd, 1) := by decide +kernel
theorem dX1_openNodes_26 : decode cX1_openNodes 26 = .ok (.ireturn, 1) := by decide +kernel
abbrev cX1_parent : ByteArray := prog_3_method_9_code
def yX1_parent : MethodName := ⟨RX1, "parent", "(I)I"⟩
theorem dX1_parent_0 : decode cX1_parent 0 = .ok (.aload_n 0, 1) := by decide +kernel
theorem dX1_parent_1 : decode cX1_parent 1 = .ok (.iload_n 1, 1) := by decide +kernel
theorem dX1_parent_2 : decode cX1_parent 2 = .ok (.invokevirtual 33, 3) := by decide +kernel
theorem dX1_parent_5 : decode cX1_parent 5 = .ok (.ifCond .eq 12, 3) := by decide +kernel
theorem dX1_parent_8 : decode cX1_parent 8 = .ok (.aload_n 0, 1) := by decide +kernel
theorem dX1_parent_9 : decode cX1_parent 9 = .ok (.getfield 13, 3) := by decide +kernel
theorem dX1_parent_12 : decode cX1_parent 12 = .ok (.iload_n 1, 1) := by decide +kernel
theorem dX1_parent_13 : decode cX1_parent 13 = .ok (.iaload, 1) := by decide +kernel
theorem dX1_parent_14 : decode cX1_parent 14 = .ok (.goto 4, 3) := by decide +kernel
theorem dX1_parent_17 : decode cX1_parent 17 = .ok (.iconst (-1), 1) := by decide +kernel
theorem dX1_parent_18 : decode cX1_parent 18 = .ok (.ireturn, 1) := by decide +kernel
abbrev cX1_node : ByteArray := prog_3_method_8_code
def yX1_node : MethodName := ⟨RX1, "node", "(I)Z"⟩
theorem dX1_node_0 : decode cX1_node 0 = .ok (.aload_n 0, 1) := by decide +kernel
theorem dX1_node_1 : decode cX1_node 1 = .ok (.invokevirtual 30, 3) := by decide +kernel
theorem dX1_node_4 : decode cX1_node 4 = .ok (.iload_n 1, 1) := by decide +kernel
theorem dX1_node_5 : decode cX1_node 5 = .ok (.ifCond .lt 15, 3) := by decide +kernel
theorem dX1_node_8 : decode cX1_node 8 = .ok (.iload_n 1, 1) := by decide +kernel
theorem dX1_node_9 : decode cX1_node 9 = .ok (.aload_n 0, 1) := by decide +kernel
theorem dX1_node_10 : decode cX1_node 10 = .ok (.getfield 20, 3) := by decide +kernel
theorem dX1_node_13 : decode cX1_node 13 = .ok (.if_icmp .ge 7, 3) := by decide +kernel
theorem dX1_node_16 : decode cX1_node 16 = .ok (.iconst 1, 1) := by decide +kernel
theorem dX1_node_17 : decode cX1_node 17 = .ok (.goto 4, 3) := by decide +kernel
theorem dX1_node_20 : decode cX1_node 20 = .ok (.iconst 0, 1) := by decide +kernel
theorem dX1_node_21 : decode cX1_node 21 = .ok (.ireturn, 1) := by decide +kernel
abbrev cX1_depth : ByteArray := prog_3_method_10_code
def yX1_depth : MethodName := ⟨RX1, "depth", "(I)I"⟩
theorem dX1_depth_0 : decode cX1_depth 0 = .ok (.aload_n 0, 1) := by decide +kernel
theorem dX1_depth_1 : decode cX1_depth 1 = .ok (.iload_n 1, 1) := by decide +kernel
theorem dX1_depth_2 : decode cX1_depth 2 = .ok (.invokevirtual 33, 3) := by decide +kernel
theorem dX1_depth_5 : decode cX1_depth 5 = .ok (.ifCond .eq 12, 3) := by decide +kernel
theorem dX1_depth_8 : decode cX1_depth 8 = .ok (.aload_n 0, 1) := by decide +kernel
theorem dX1_depth_9 : decode cX1_depth 9 = .ok (.getfield 17, 3) := by decide +kernel
theorem dX1_depth_12 : decode cX1_depth 12 = .ok (.iload_n 1, 1) := by decide +kernel
theorem dX1_depth_13 : decode cX1_depth 13 = .ok (.iaload, 1) := by decide +kernel
theorem dX1_depth_14 : decode cX1_depth 14 = .ok (.goto 4, 3) := by decide +kernel
theorem dX1_depth_17 : decode cX1_depth 17 = .ok (.iconst (-1), 1) := by decide +kernel
theorem dX1_depth_18 : decode cX1_depth 18 = .ok (.ireturn, 1) := by decide +kernel
abbrev cX1_size : ByteArray := prog_3_method_12_code
def yX1_size : MethodName := ⟨RX1, "size", "(I)I"⟩
theorem dX1_size_0 : decode cX1_size 0 = .ok (.aload_n 0, 1) := by decide +kernel
theorem dX1_size_1 : decode cX1_size 1 = .ok (.iload_n 1, 1) := by decide +kernel
theorem dX1_size_2 : decode cX1_size 2 = .ok (.invokevirtual 33, 3) := by decide +kernel
theorem dX1_size_5 : decode cX1_size 5 = .ok (.ifCond .ne 5, 3) := by decide +kernel
theorem dX1_size_8 : decode cX1_size 8 = .ok (.iconst (-1), 1) := by decide +kernel
theorem dX1_size_9 : decode cX1_size 9 = .ok (.ireturn, 1) := by decide +kernel
theorem dX1_size_10 : decode cX1_size 10 = .ok (.iconst 0, 1) := by decide +kernel
theorem dX1_size_11 : decode cX1_size 11 = .ok (.istore_n 2, 1) := by decide +kernel
theorem dX1_size_12 : decode cX1_size 12 = .ok (.iconst 0, 1) := by decide +kernel
theorem dX1_size_13 : decode cX1_size 13 = .ok (.istore_n 3, 1) := by decide +kernel
theorem dX1_size_14 : decode cX1_size 14 = .ok (.iload_n 3, 1) := by decide +kernel
theorem dX1_size_15 : decode cX1_size 15 = .ok (.aload_n 0, 1) := by decide +kernel
theorem dX1_size_16 : decode cX1_size 16 = .ok (.getfield 20, 3) := by decide +kernel
theorem dX1_size_19 : decode cX1_size 19 = .ok (.if_icmp .ge 26, 3) := by decide +kernel
theorem dX1_size_22 : decode cX1_size 22 = .ok (.aload_n 0, 1) := by decide +kernel
theorem dX1_size_23 : decode cX1_size 23 = .ok (.iload_n 3, 1) := by decide +kernel
theorem dX1_size_24 : decode cX1_size 24 = .ok (.iload_n 1, 1) := by decide +kernel
theorem dX1_size_25 : decode cX1_size 25 = .ok (.invokevirtual 37, 3) := by decide +kernel
theorem dX1_size_28 : decode cX1_size 28 = .ok (.ifCond .eq 9, 3) := by decide +kernel
theorem dX1_size_31 : decode cX1_size 31 = .ok (.iload_n 2, 1) := by decide +kernel
theorem dX1_size_32 : decode cX1_size 32 = .ok (.iconst 1, 1) := by decide +kernel
theorem dX1_size_33 : decode cX1_size 33 = .ok (.iadd, 1) := by decide +kernel
theorem dX1_size_34 : decode cX1_size 34 = .ok (.goto 4, 3) := by decide +kernel
theorem dX1_size_37 : decode cX1_size 37 = .ok (.iload_n 2, 1) := by decide +kernel
theorem dX1_size_38 : decode cX1_size 38 = .ok (.istore_n 2, 1) := by decide +kernel
theorem dX1_size_39 : decode cX1_size 39 = .ok (.iinc 3 1, 3) := by decide +kernel
theorem dX1_size_42 : decode cX1_size 42 = .ok (.goto (-28), 3) := by decide +kernel
theorem dX1_size_45 : decode cX1_size 45 = .ok (.iload_n 2, 1) := by decide +kernel
theorem dX1_size_46 : decode cX1_size 46 = .ok (.ireturn, 1) := by decide +kernel
abbrev cX1_under : ByteArray := prog_3_method_11_code
def yX1_under : MethodName := ⟨RX1, "under", "(II)Z"⟩
theorem dX1_under_0 : decode cX1_under 0 = .ok (.iload_n 1, 1) := by decide +kernel
theorem dX1_under_1 : decode cX1_under 1 = .ok (.istore_n 3, 1) := by decide +kernel
theorem dX1_under_2 : decode cX1_under 2 = .ok (.iload_n 3, 1) := by decide +kernel
theorem dX1_under_3 : decode cX1_under 3 = .ok (.ifCond .lt 18, 3) := by decide +kernel
theorem dX1_under_6 : decode cX1_under 6 = .ok (.iload_n 3, 1) := by decide +kernel
theorem dX1_under_7 : decode cX1_under 7 = .ok (.iload_n 2, 1) := by decide +kernel
theorem dX1_under_8 : decode cX1_under 8 = .ok (.if_icmp .eq 13, 3) := by decide +kernel
theorem dX1_under_11 : decode cX1_under 11 = .ok (.aload_n 0, 1) := by decide +kernel
theorem dX1_under_12 : decode cX1_under 12 = .ok (.getfield 13, 3) := by decide +kernel
theorem dX1_under_15 : decode cX1_under 15 = .ok (.iload_n 3, 1) := by decide +kernel
theorem dX1_under_16 : decode cX1_under 16 = .ok (.iaload, 1) := by decide +kernel
theorem dX1_under_17 : decode cX1_under 17 = .ok (.istore_n 3, 1) := by decide +kernel
theorem dX1_under_18 : decode cX1_under 18 = .ok (.goto (-16), 3) := by decide +kernel
theorem dX1_under_21 : decode cX1_under 21 = .ok (.iload_n 3, 1) := by decide +kernel
theorem dX1_under_22 : decode cX1_under 22 = .ok (.ifCond .lt 7, 3) := by decide +kernel
theorem dX1_under_25 : decode cX1_under 25 = .ok (.iconst 1, 1) := by decide +kernel
theorem dX1_under_26 : decode cX1_under 26 = .ok (.goto 4, 3) := by decide +kernel
theorem dX1_under_29 : decode cX1_under 29 = .ok (.iconst 0, 1) := by decide +kernel
theorem dX1_under_30 : decode cX1_under 30 = .ok (.ireturn, 1) := by decide +kernel
abbrev cX1_children : ByteArray := prog_3_method_14_code
def yX1_children : MethodName := ⟨RX1, "children", "(I)I"⟩
theorem dX1_children_0 : decode cX1_children 0 = .ok (.aload_n 0, 1) := by decide +kernel
theorem dX1_children_1 : decode cX1_children 1 = .ok (.iload_n 1, 1) := by decide +kernel
theorem dX1_children_2 : decode cX1_children 2 = .ok (.invokevirtual 33, 3) := by decide +kernel
theorem dX1_children_5 : decode cX1_children 5 = .ok (.ifCond .eq 11, 3) := by decide +kernel
theorem dX1_children_8 : decode cX1_children 8 = .ok (.aload_n 0, 1) := by decide +kernel
theorem dX1_children_9 : decode cX1_children 9 = .ok (.iload_n 1, 1) := by decide +kernel
theorem dX1_children_10 : decode cX1_children 10 = .ok (.invokevirtual 41, 3) := by decide +kernel
theorem dX1_children_13 : decode cX1_children 13 = .ok (.goto 4, 3) := by decide +kernel
theorem dX1_children_16 : decode cX1_children 16 = .ok (.iconst (-1), 1) := by decide +kernel
theorem dX1_children_17 : decode cX1_children 17 = .ok (.ireturn, 1) := by decide +kernel
abbrev cX1_childrenOf : ByteArray := prog_3_method_13_code
def yX1_childrenOf : MethodName := ⟨RX1, "childrenOf", "(I)I"⟩
theorem dX1_childrenOf_0 : decode cX1_childrenOf 0 = .ok (.iconst 0, 1) := by decide +kernel
theorem dX1_childrenOf_1 : decode cX1_childrenOf 1 = .ok (.istore_n 2, 1) := by decide +kernel
theorem dX1_childrenOf_2 : decode cX1_childrenOf 2 = .ok (.iconst 0, 1) := by decide +kernel
theorem dX1_childrenOf_3 : decode cX1_childrenOf 3 = .ok (.istore_n 3, 1) := by decide +kernel
theorem dX1_childrenOf_4 : decode cX1_childrenOf 4 = .ok (.iload_n 3, 1) := by decide +kernel
theorem dX1_childrenOf_5 : decode cX1_childrenOf 5 = .ok (.aload_n 0, 1) := by decide +kernel
theorem dX1_childrenOf_6 : decode cX1_childrenOf 6 = .ok (.getfield 20, 3) := by decide +kernel
theorem dX1_childrenOf_9 : decode cX1_childrenOf 9 = .ok (.if_icmp .ge 27, 3) := by decide +kernel
theorem dX1_childrenOf_12 : decode cX1_childrenOf 12 = .ok (.aload_n 0, 1) := by decide +kernel
theorem dX1_childrenOf_13 : decode cX1_childrenOf 13 = .ok (.getfield 13, 3) := by decide +kernel
theorem dX1_childrenOf_16 : decode cX1_childrenOf 16 = .ok (.iload_n 3, 1) := by decide +kernel
theorem dX1_childrenOf_17 : decode cX1_childrenOf 17 = .ok (.iaload, 1) := by decide +kernel
theorem dX1_childrenOf_18 : decode cX1_childrenOf 18 = .ok (.iload_n 1, 1) := by decide +kernel
theorem dX1_childrenOf_19 : decode cX1_childrenOf 19 = .ok (.if_icmp .ne 9, 3) := by decide +kernel
theorem dX1_childrenOf_22 : decode cX1_childrenOf 22 = .ok (.iload_n 2, 1) := by decide +kernel
theorem dX1_childrenOf_23 : decode cX1_childrenOf 23 = .ok (.iconst 1, 1) := by decide +kernel
theorem dX1_childrenOf_24 : decode cX1_childrenOf 24 = .ok (.iadd, 1) := by decide +kernel
theorem dX1_childrenOf_25 : decode cX1_childrenOf 25 = .ok (.goto 4, 3) := by decide +kernel
theorem dX1_childrenOf_28 : decode cX1_childrenOf 28 = .ok (.iload_n 2, 1) := by decide +kernel
theorem dX1_childrenOf_29 : decode cX1_childrenOf 29 = .ok (.istore_n 2, 1) := by decide +kernel
theorem dX1_childrenOf_30 : decode cX1_childrenOf 30 = .ok (.iinc 3 1, 3) := by decide +kernel
theorem dX1_childrenOf_33 : decode cX1_childrenOf 33 = .ok (.goto (-29), 3) := by decide +kernel
theorem dX1_childrenOf_36 : decode cX1_childrenOf 36 = .ok (.iload_n 2, 1) := by decide +kernel
theorem dX1_childrenOf_37 : decode cX1_childrenOf 37 = .ok (.ireturn, 1) := by decide +kernel
abbrev cX1_child : ByteArray := prog_3_method_15_code
def yX1_child : MethodName := ⟨RX1, "child", "(II)I"⟩
theorem dX1_child_0 : decode cX1_child 0 = .ok (.iconst 0, 1) := by decide +kernel
theorem dX1_child_1 : decode cX1_child 1 = .ok (.istore_n 3, 1) := by decide +kernel
theorem dX1_child_2 : decode cX1_child 2 = .ok (.aload_n 0, 1) := by decide +kernel
theorem dX1_child_3 : decode cX1_child 3 = .ok (.iload_n 1, 1) := by decide +kernel
theorem dX1_child_4 : decode cX1_child 4 = .ok (.invokevirtual 33, 3) := by decide +kernel
theorem dX1_child_7 : decode cX1_child 7 = .ok (.istore 4, 2) := by decide +kernel
theorem dX1_child_9 : decode cX1_child 9 = .ok (.iconst 0, 1) := by decide +kernel
theorem dX1_child_10 : decode cX1_child 10 = .ok (.istore 5, 2) := by decide +kernel
theorem dX1_child_12 : decode cX1_child 12 = .ok (.iload 5, 2) := by decide +kernel
theorem dX1_child_14 : decode cX1_child 14 = .ok (.aload_n 0, 1) := by decide +kernel
theorem dX1_child_15 : decode cX1_child 15 = .ok (.getfield 20, 3) := by decide +kernel
theorem dX1_child_18 : decode cX1_child 18 = .ok (.if_icmp .ge 36, 3) := by decide +kernel
theorem dX1_child_21 : decode cX1_child 21 = .ok (.iload 4, 2) := by decide +kernel
theorem dX1_child_23 : decode cX1_child 23 = .ok (.ifCond .eq 31, 3) := by decide +kernel
theorem dX1_child_26 : decode cX1_child 26 = .ok (.aload_n 0, 1) := by decide +kernel
theorem dX1_child_27 : decode cX1_child 27 = .ok (.getfield 13, 3) := by decide +kernel
theorem dX1_child_30 : decode cX1_child 30 = .ok (.iload 5, 2) := by decide +kernel
theorem dX1_child_32 : decode cX1_child 32 = .ok (.iaload, 1) := by decide +kernel
theorem dX1_child_33 : decode cX1_child 33 = .ok (.iload_n 1, 1) := by decide +kernel
theorem dX1_child_34 : decode cX1_child 34 = .ok (.if_icmp .ne 14, 3) := by decide +kernel
theorem dX1_child_37 : decode cX1_child 37 = .ok (.iload_n 3, 1) := by decide +kernel
theorem dX1_child_38 : decode cX1_child 38 = .ok (.iload_n 2, 1) := by decide +kernel
theorem dX1_child_39 : decode cX1_child 39 = .ok (.if_icmp .ne 6, 3) := by decide +kernel
theorem dX1_child_42 : decode cX1_child 42 = .ok (.iload 5, 2) := by decide +kernel
theorem dX1_child_44 : decode cX1_child 44 = .ok (.ireturn, 1) := by decide +kernel
theorem dX1_child_45 : decode cX1_child 45 = .ok (.iinc 3 1, 3) := by decide +kernel
theorem dX1_child_48 : decode cX1_child 48 = .ok (.iinc 5 1, 3) := by decide +kernel
theorem dX1_child_51 : decode cX1_child 51 = .ok (.goto (-39), 3) := by decide +kernel
theorem dX1_child_54 : decode cX1_child 54 = .ok (.iconst (-1), 1) := by decide +kernel
theorem dX1_child_55 : decode cX1_child 55 = .ok (.ireturn, 1) := by decide +kernel
abbrev cX1_next : ByteArray := prog_3_method_16_code
def yX1_next : MethodName := ⟨RX1, "next", "(I)I"⟩
theorem dX1_next_0 : decode cX1_next 0 = .ok (.aload_n 0, 1) := by decide +kernel
theorem dX1_next_1 : decode cX1_next 1 = .ok (.iload_n 1, 1) := by decide +kernel
theorem dX1_next_2 : decode cX1_next 2 = .ok (.invokevirtual 33, 3) := by decide +kernel
theorem dX1_next_5 : decode cX1_next 5 = .ok (.istore_n 2, 1) := by decide +kernel
theorem dX1_next_6 : decode cX1_next 6 = .ok (.iconst 0, 1) := by decide +kernel
theorem dX1_next_7 : decode cX1_next 7 = .ok (.istore_n 3, 1) := by decide +kernel
theorem dX1_next_8 : decode cX1_next 8 = .ok (.iload_n 3, 1) := by decide +kernel
theorem dX1_next_9 : decode cX1_next 9 = .ok (.aload_n 0, 1) := by decide +kernel
theorem dX1_next_10 : decode cX1_next 10 = .ok (.getfield 20, 3) := by decide +kernel
theorem dX1_next_13 : decode cX1_next 13 = .ok (.if_icmp .ge 35, 3) := by decide +kernel
theorem dX1_next_16 : decode cX1_next 16 = .ok (.iload_n 2, 1) := by decide +kernel
theorem dX1_next_17 : decode cX1_next 17 = .ok (.ifCond .eq 31, 3) := by decide +kernel
theorem dX1_next_20 : decode cX1_next 20 = .ok (.iload_n 3, 1) := by decide +kernel
theorem dX1_next_21 : decode cX1_next 21 = .ok (.iload_n 1, 1) := by decide +kernel
theorem dX1_next_22 : decode cX1_next 22 = .ok (.if_icmp .le 20, 3) := by decide +kernel
theorem dX1_next_25 : decode cX1_next 25 = .ok (.aload_n 0, 1) := by decide +kernel
theorem dX1_next_26 : decode cX1_next 26 = .ok (.getfield 13, 3) := by decide +kernel
theorem dX1_next_29 : decode cX1_next 29 = .ok (.iload_n 3, 1) := by decide +kernel
theorem dX1_next_30 : decode cX1_next 30 = .ok (.iaload, 1) := by decide +kernel
theorem dX1_next_31 : decode cX1_next 31 = .ok (.aload_n 0, 1) := by decide +kernel
theorem dX1_next_32 : decode cX1_next 32 = .ok (.getfield 13, 3) := by decide +kernel
theorem dX1_next_35 : decode cX1_next 35 = .ok (.iload_n 1, 1) := by decide +kernel
theorem dX1_next_36 : decode cX1_next 36 = .ok (.iaload, 1) := by decide +kernel
theorem dX1_next_37 : decode cX1_next 37 = .ok (.if_icmp .ne 5, 3) := by decide +kernel
theorem dX1_next_40 : decode cX1_next 40 = .ok (.iload_n 3, 1) := by decide +kernel
theorem dX1_next_41 : decode cX1_next 41 = .ok (.ireturn, 1) := by decide +kernel
theorem dX1_next_42 : decode cX1_next 42 = .ok (.iinc 3 1, 3) := by decide +kernel
theorem dX1_next_45 : decode cX1_next 45 = .ok (.goto (-37), 3) := by decide +kernel
theorem dX1_next_48 : decode cX1_next 48 = .ok (.iconst (-1), 1) := by decide +kernel
theorem dX1_next_49 : decode cX1_next 49 = .ok (.ireturn, 1) := by decide +kernel
abbrev cX1_previous : ByteArray := prog_3_method_17_code
def yX1_previous : MethodName := ⟨RX1, "previous", "(I)I"⟩
theorem dX1_previous_0 : decode cX1_previous 0 = .ok (.aload_n 0, 1) := by decide +kernel
theorem dX1_previous_1 : decode cX1_previous 1 = .ok (.iload_n 1, 1) := by decide +kernel
theorem dX1_previous_2 : decode cX1_previous 2 = .ok (.invokevirtual 33, 3) := by decide +kernel
theorem dX1_previous_5 : decode cX1_previous 5 = .ok (.istore_n 2, 1) := by decide +kernel
theorem dX1_previous_6 : decode cX1_previous 6 = .ok (.aload_n 0, 1) := by decide +kernel
theorem dX1_previous_7 : decode cX1_previous 7 = .ok (.getfield 20, 3) := by decide +kernel
theorem dX1_previous_10 : decode cX1_previous 10 = .ok (.iconst 1, 1) := by decide +kernel
theorem dX1_previous_11 : decode cX1_previous 11 = .ok (.isub, 1) := by decide +kernel
theorem dX1_previous_12 : decode cX1_previous 12 = .ok (.istore_n 3, 1) := by decide +kernel
theorem dX1_previous_13 : decode cX1_previous 13 = .ok (.iload_n 3, 1) := by decide +kernel
theorem dX1_previous_14 : decode cX1_previous 14 = .ok (.ifCond .lt 35, 3) := by decide +kernel
theorem dX1_previous_17 : decode cX1_previous 17 = .ok (.iload_n 2, 1) := by decide +kernel
theorem dX1_previous_18 : decode cX1_previous 18 = .ok (.ifCond .eq 31, 3) := by decide +kernel
theorem dX1_previous_21 : decode cX1_previous 21 = .ok (.iload_n 3, 1) := by decide +kernel
theorem dX1_previous_22 : decode cX1_previous 22 = .ok (.iload_n 1, 1) := by decide +kernel
theorem dX1_previous_23 : decode cX1_previous 23 = .ok (.if_icmp .ge 20, 3) := by decide +kernel
theorem dX1_previous_26 : decode cX1_previous 26 = .ok (.aload_n 0, 1) := by decide +kernel
theorem dX1_previous_27 : decode cX1_previous 27 = .ok (.getfield 13, 3) := by decide +kernel
theorem dX1_previous_30 : decode cX1_previous 30 = .ok (.iload_n 3, 1) := by decide +kernel
theorem dX1_previous_31 : decode cX1_previous 31 = .ok (.iaload, 1) := by decide +kernel
theorem dX1_previous_32 : decode cX1_previous 32 = .ok (.aload_n 0, 1) := by decide +kernel
theorem dX1_previous_33 : decode cX1_previous 33 = .ok (.getfield 13, 3) := by decide +kernel
theorem dX1_previous_36 : decode cX1_previous 36 = .ok (.iload_n 1, 1) := by decide +kernel
theorem dX1_previous_37 : decode cX1_previous 37 = .ok (.iaload, 1) := by decide +kernel
theorem dX1_previous_38 : decode cX1_previous 38 = .ok (.if_icmp .ne 5, 3) := by decide +kernel
theorem dX1_previous_41 : decode cX1_previous 41 = .ok (.iload_n 3, 1) := by decide +kernel
theorem dX1_previous_42 : decode cX1_previous 42 = .ok (.ireturn, 1) := by decide +kernel
theorem dX1_previous_43 : decode cX1_previous 43 = .ok (.iinc 3 (-1), 3) := by decide +kernel
theorem dX1_previous_46 : decode cX1_previous 46 = .ok (.goto (-33), 3) := by decide +kernel
theorem dX1_previous_49 : decode cX1_previous 49 = .ok (.iconst (-1), 1) := by decide +kernel
theorem dX1_previous_50 : decode cX1_previous 50 = .ok (.ireturn, 1) := by decide +kernel
abbrev cX1_meet : ByteArray := prog_3_method_18_code
def yX1_meet : MethodName := ⟨RX1, "meet", "(II)I"⟩
theorem dX1_meet_0 : decode cX1_meet 0 = .ok (.iconst (-1), 1) := by decide +kernel
theorem dX1_meet_1 : decode cX1_meet 1 = .ok (.istore_n 3, 1) := by decide +kernel
theorem dX1_meet_2 : decode cX1_meet 2 = .ok (.aload_n 0, 1) := by decide +kernel
theorem dX1_meet_3 : decode cX1_meet 3 = .ok (.iload_n 1, 1) := by decide +kernel
theorem dX1_meet_4 : decode cX1_meet 4 = .ok (.invokevirtual 33, 3) := by decide +kernel
theorem dX1_meet_7 : decode cX1_meet 7 = .ok (.ifCond .eq 15, 3) := by decide +kernel
theorem dX1_meet_10 : decode cX1_meet 10 = .ok (.aload_n 0, 1) := by decide +kernel
theorem dX1_meet_11 : decode cX1_meet 11 = .ok (.iload_n 2, 1) := by decide +kernel
theorem dX1_meet_12 : decode cX1_meet 12 = .ok (.invokevirtual 33, 3) := by decide +kernel
theorem dX1_meet_15 : decode cX1_meet 15 = .ok (.ifCond .eq 7, 3) := by decide +kernel
theorem dX1_meet_18 : decode cX1_meet 18 = .ok (.iconst 1, 1) := by decide +kernel
theorem dX1_meet_19 : decode cX1_meet 19 = .ok (.goto 4, 3) := by decide +kernel
theorem dX1_meet_22 : decode cX1_meet 22 = .ok (.iconst 0, 1) := by decide +kernel
theorem dX1_meet_23 : decode cX1_meet 23 = .ok (.istore 4, 2) := by decide +kernel
theorem dX1_meet_25 : decode cX1_meet 25 = .ok (.iconst 0, 1) := by decide +kernel
theorem dX1_meet_26 : decode cX1_meet 26 = .ok (.istore 5, 2) := by decide +kernel
theorem dX1_meet_28 : decode cX1_meet 28 = .ok (.iload 5, 2) := by decide +kernel
theorem dX1_meet_30 : decode cX1_meet 30 = .ok (.aload_n 0, 1) := by decide +kernel
theorem dX1_meet_31 : decode cX1_meet 31 = .ok (.getfield 20, 3) := by decide +kernel
theorem dX1_meet_34 : decode cX1_meet 34 = .ok (.if_icmp .ge 61, 3) := by decide +kernel
theorem dX1_meet_37 : decode cX1_meet 37 = .ok (.iload 4, 2) := by decide +kernel
theorem dX1_meet_39 : decode cX1_meet 39 = .ok (.ifCond .eq 56, 3) := by decide +kernel
theorem dX1_meet_42 : decode cX1_meet 42 = .ok (.aload_n 0, 1) := by decide +kernel
theorem dX1_meet_43 : decode cX1_meet 43 = .ok (.iload_n 1, 1) := by decide +kernel
theorem dX1_meet_44 : decode cX1_meet 44 = .ok (.iload 5, 2) := by decide +kernel
theorem dX1_meet_46 : decode cX1_meet 46 = .ok (.invokevirtual 37, 3) := by decide +kernel
theorem dX1_meet_49 : decode cX1_meet 49 = .ok (.ifCond .eq 38, 3) := by decide +kernel
theorem dX1_meet_52 : decode cX1_meet 52 = .ok (.aload_n 0, 1) := by decide +kernel
theorem dX1_meet_53 : decode cX1_meet 53 = .ok (.iload_n 2, 1) := by decide +kernel
theorem dX1_meet_54 : decode cX1_meet 54 = .ok (.iload 5, 2) := by decide +kernel
theorem dX1_meet_56 : decode cX1_meet 56 = .ok (.invokevirtual 37, 3) := by decide +kernel
theorem dX1_meet_59 : decode cX1_meet 59 = .ok (.ifCond .eq 28, 3) := by decide +kernel
theorem dX1_meet_62 : decode cX1_meet 62 = .ok (.iload_n 3, 1) := by decide +kernel
theorem dX1_meet_63 : decode cX1_meet 63 = .ok (.ifCond .lt 19, 3) := by decide +kernel
theorem dX1_meet_66 : decode cX1_meet 66 = .ok (.aload_n 0, 1) := by decide +kernel
theorem dX1_meet_67 : decode cX1_meet 67 = .ok (.getfield 17, 3) := by decide +kernel
theorem dX1_meet_70 : decode cX1_meet 70 = .ok (.iload 5, 2) := by decide +kernel
theorem dX1_meet_72 : decode cX1_meet 72 = .ok (.iaload, 1) := by decide +kernel
theorem dX1_meet_73 : decode cX1_meet 73 = .ok (.aload_n 0, 1) := by decide +kernel
theorem dX1_meet_74 : decode cX1_meet 74 = .ok (.getfield 17, 3) := by decide +kernel
theorem dX1_meet_77 : decode cX1_meet 77 = .ok (.iload_n 3, 1) := by decide +kernel
theorem dX1_meet_78 : decode cX1_meet 78 = .ok (.iaload, 1) := by decide +kernel
theorem dX1_meet_79 : decode cX1_meet 79 = .ok (.if_icmp .le 8, 3) := by decide +kernel
theorem dX1_meet_82 : decode cX1_meet 82 = .ok (.iload 5, 2) := by decide +kernel
theorem dX1_meet_84 : decode cX1_meet 84 = .ok (.goto 4, 3) := by decide +kernel
theorem dX1_meet_87 : decode cX1_meet 87 = .ok (.iload_n 3, 1) := by decide +kernel
theorem dX1_meet_88 : decode cX1_meet 88 = .ok (.istore_n 3, 1) := by decide +kernel
theorem dX1_meet_89 : decode cX1_meet 89 = .ok (.iinc 5 1, 3) := by decide +kernel
theorem dX1_meet_92 : decode cX1_meet 92 = .ok (.goto (-64), 3) := by decide +kernel
theorem dX1_meet_95 : decode cX1_meet 95 = .ok (.iload_n 3, 1) := by decide +kernel
theorem dX1_meet_96 : decode cX1_meet 96 = .ok (.ireturn, 1) := by decide +kernel
abbrev cX1_aboveAt : ByteArray := prog_3_method_19_code
def yX1_aboveAt : MethodName := ⟨RX1, "aboveAt", "(II)I"⟩
theorem dX1_aboveAt_0 : decode cX1_aboveAt 0 = .ok (.aload_n 0, 1) := by decide +kernel
theorem dX1_aboveAt_1 : decode cX1_aboveAt 1 = .ok (.iload_n 1, 1) := by decide +kernel
theorem dX1_aboveAt_2 : decode cX1_aboveAt 2 = .ok (.invokevirtual 33, 3) := by decide +kernel
theorem dX1_aboveAt_5 : decode cX1_aboveAt 5 = .ok (.istore_n 3, 1) := by decide +kernel
theorem dX1_aboveAt_6 : decode cX1_aboveAt 6 = .ok (.iconst 0, 1) := by decide +kernel
theorem dX1_aboveAt_7 : decode cX1_aboveAt 7 = .ok (.istore 4, 2) := by decide +kernel
theorem dX1_aboveAt_9 : decode cX1_aboveAt 9 = .ok (.iload 4, 2) := by decide +kernel
theorem dX1_aboveAt_11 : decode cX1_aboveAt 11 = .ok (.aload_n 0, 1) := by decide +kernel
theorem dX1_aboveAt_12 : decode cX1_aboveAt 12 = .ok (.getfield 20, 3) := by decide +kernel
theorem dX1_aboveAt_15 : decode cX1_aboveAt 15 = .ok (.if_icmp .ge 37, 3) := by decide +kernel
theorem dX1_aboveAt_18 : decode cX1_aboveAt 18 = .ok (.iload_n 3, 1) := by decide +kernel
theorem dX1_aboveAt_19 : decode cX1_aboveAt 19 = .ok (.ifCond .eq 33, 3) := by decide +kernel
theorem dX1_aboveAt_22 : decode cX1_aboveAt 22 = .ok (.aload_n 0, 1) := by decide +kernel
theorem dX1_aboveAt_23 : decode cX1_aboveAt 23 = .ok (.iload_n 1, 1) := by decide +kernel
theorem dX1_aboveAt_24 : decode cX1_aboveAt 24 = .ok (.iload 4, 2) := by decide +kernel
theorem dX1_aboveAt_26 : decode cX1_aboveAt 26 = .ok (.invokevirtual 37, 3) := by decide +kernel
theorem dX1_aboveAt_29 : decode cX1_aboveAt 29 = .ok (.ifCond .eq 17, 3) := by decide +kernel
theorem dX1_aboveAt_32 : decode cX1_aboveAt 32 = .ok (.aload_n 0, 1) := by decide +kernel
theorem dX1_aboveAt_33 : decode cX1_aboveAt 33 = .ok (.getfield 17, 3) := by decide +kernel
theorem dX1_aboveAt_36 : decode cX1_aboveAt 36 = .ok (.iload 4, 2) := by decide +kernel
theorem dX1_aboveAt_38 : decode cX1_aboveAt 38 = .ok (.iaload, 1) := by decide +kernel
theorem dX1_aboveAt_39 : decode cX1_aboveAt 39 = .ok (.iload_n 2, 1) := by decide +kernel
theorem dX1_aboveAt_40 : decode cX1_aboveAt 40 = .ok (.if_icmp .ne 6, 3) := by decide +kernel
theorem dX1_aboveAt_43 : decode cX1_aboveAt 43 = .ok (.iload 4, 2) := by decide +kernel
theorem dX1_aboveAt_45 : decode cX1_aboveAt 45 = .ok (.ireturn, 1) := by decide +kernel
theorem dX1_aboveAt_46 : decode cX1_aboveAt 46 = .ok (.iinc 4 1, 3) := by decide +kernel
theorem dX1_aboveAt_49 : decode cX1_aboveAt 49 = .ok (.goto (-40), 3) := by decide +kernel
theorem dX1_aboveAt_52 : decode cX1_aboveAt 52 = .ok (.iconst (-1), 1) := by decide +kernel
theorem dX1_aboveAt_53 : decode cX1_aboveAt 53 = .ok (.ireturn, 1) := by decide +kernel
abbrev cX1_height : ByteArray := prog_3_method_20_code
def yX1_height : MethodName := ⟨RX1, "height", "(I)I"⟩
theorem dX1_height_0 : decode cX1_height 0 = .ok (.aload_n 0, 1) := by decide +kernel
theorem dX1_height_1 : decode cX1_height 1 = .ok (.iload_n 1, 1) := by decide +kernel
theorem dX1_height_2 : decode cX1_height 2 = .ok (.invokevirtual 33, 3) := by decide +kernel
theorem dX1_height_5 : decode cX1_height 5 = .ok (.ifCond .ne 5, 3) := by decide +kernel
theorem dX1_height_8 : decode cX1_height 8 = .ok (.iconst (-1), 1) := by decide +kernel
theorem dX1_height_9 : decode cX1_height 9 = .ok (.ireturn, 1) := by decide +kernel
theorem dX1_height_10 : decode cX1_height 10 = .ok (.iconst 0, 1) := by decide +kernel
theorem dX1_height_11 : decode cX1_height 11 = .ok (.istore_n 2, 1) := by decide +kernel
theorem dX1_height_12 : decode cX1_height 12 = .ok (.iconst 0, 1) := by decide +kernel
theorem dX1_height_13 : decode cX1_height 13 = .ok (.istore_n 3, 1) := by decide +kernel
theorem dX1_height_14 : decode cX1_height 14 = .ok (.iload_n 3, 1) := by decide +kernel
theorem dX1_height_15 : decode cX1_height 15 = .ok (.aload_n 0, 1) := by decide +kernel
theorem dX1_height_16 : decode cX1_height 16 = .ok (.getfield 20, 3) := by decide +kernel
theorem dX1_height_19 : decode cX1_height 19 = .ok (.if_icmp .ge 53, 3) := by decide +kernel
theorem dX1_height_22 : decode cX1_height 22 = .ok (.aload_n 0, 1) := by decide +kernel
theorem dX1_height_23 : decode cX1_height 23 = .ok (.iload_n 3, 1) := by decide +kernel
theorem dX1_height_24 : decode cX1_height 24 = .ok (.iload_n 1, 1) := by decide +kernel
theorem dX1_height_25 : decode cX1_height 25 = .ok (.invokevirtual 37, 3) := by decide +kernel
theorem dX1_height_28 : decode cX1_height 28 = .ok (.ifCond .eq 36, 3) := by decide +kernel
theorem dX1_height_31 : decode cX1_height 31 = .ok (.aload_n 0, 1) := by decide +kernel
theorem dX1_height_32 : decode cX1_height 32 = .ok (.getfield 17, 3) := by decide +kernel
theorem dX1_height_35 : decode cX1_height 35 = .ok (.iload_n 3, 1) := by decide +kernel
theorem dX1_height_36 : decode cX1_height 36 = .ok (.iaload, 1) := by decide +kernel
theorem dX1_height_37 : decode cX1_height 37 = .ok (.aload_n 0, 1) := by decide +kernel
theorem dX1_height_38 : decode cX1_height 38 = .ok (.getfield 17, 3) := by decide +kernel
theorem dX1_height_41 : decode cX1_height 41 = .ok (.iload_n 1, 1) := by decide +kernel
theorem dX1_height_42 : decode cX1_height 42 = .ok (.iaload, 1) := by decide +kernel
theorem dX1_height_43 : decode cX1_height 43 = .ok (.isub, 1) := by decide +kernel
theorem dX1_height_44 : decode cX1_height 44 = .ok (.iload_n 2, 1) := by decide +kernel
theorem dX1_height_45 : decode cX1_height 45 = .ok (.if_icmp .le 19, 3) := by decide +kernel
theorem dX1_height_48 : decode cX1_height 48 = .ok (.aload_n 0, 1) := by decide +kernel
theorem dX1_height_49 : decode cX1_height 49 = .ok (.getfield 17, 3) := by decide +kernel
theorem dX1_height_52 : decode cX1_height 52 = .ok (.iload_n 3, 1) := by decide +kernel
theorem dX1_height_53 : decode cX1_height 53 = .ok (.iaload, 1) := by decide +kernel
theorem dX1_height_54 : decode cX1_height 54 = .ok (.aload_n 0, 1) := by decide +kernel
theorem dX1_height_55 : decode cX1_height 55 = .ok (.getfield 17, 3) := by decide +kernel
theorem dX1_height_58 : decode cX1_height 58 = .ok (.iload_n 1, 1) := by decide +kernel
theorem dX1_height_59 : decode cX1_height 59 = .ok (.iaload, 1) := by decide +kernel
theorem dX1_height_60 : decode cX1_height 60 = .ok (.isub, 1) := by decide +kernel
theorem dX1_height_61 : decode cX1_height 61 = .ok (.goto 4, 3) := by decide +kernel
theorem dX1_height_64 : decode cX1_height 64 = .ok (.iload_n 2, 1) := by decide +kernel
theorem dX1_height_65 : decode cX1_height 65 = .ok (.istore_n 2, 1) := by decide +kernel
theorem dX1_height_66 : decode cX1_height 66 = .ok (.iinc 3 1, 3) := by decide +kernel
theorem dX1_height_69 : decode cX1_height 69 = .ok (.goto (-55), 3) := by decide +kernel
theorem dX1_height_72 : decode cX1_height 72 = .ok (.iload_n 2, 1) := by decide +kernel
theorem dX1_height_73 : decode cX1_height 73 = .ok (.ireturn, 1) := by decide +kernel
abbrev cX1_leavesBefore : ByteArray := prog_3_method_21_code
def yX1_leavesBefore : MethodName := ⟨RX1, "leavesBefore", "(I)I"⟩
theorem dX1_leavesBefore_0 : decode cX1_leavesBefore 0 = .ok (.aload_n 0, 1) := by decide +kernel
theorem dX1_leavesBefore_1 : decode cX1_leavesBefore 1 = .ok (.iload_n 1, 1) := by decide +kernel
theorem dX1_leavesBefore_2 : decode cX1_leavesBefore 2 = .ok (.invokevirtual 33, 3) := by decide +kernel
theorem dX1_leavesBefore_5 : decode cX1_leavesBefore 5 = .ok (.ifCond .ne 5, 3) := by decide +kernel
theorem dX1_leavesBefore_8 : decode cX1_leavesBefore 8 = .ok (.iconst (-1), 1) := by decide +kernel
theorem dX1_leavesBefore_9 : decode cX1_leavesBefore 9 = .ok (.ireturn, 1) := by decide +kernel
theorem dX1_leavesBefore_10 : decode cX1_leavesBefore 10 = .ok (.iconst 0, 1) := by decide +kernel
theorem dX1_leavesBefore_11 : decode cX1_leavesBefore 11 = .ok (.istore_n 2, 1) := by decide +kernel
theorem dX1_leavesBefore_12 : decode cX1_leavesBefore 12 = .ok (.iconst 0, 1) := by decide +kernel
theorem dX1_leavesBefore_13 : decode cX1_leavesBefore 13 = .ok (.istore_n 3, 1) := by decide +kernel
theorem dX1_leavesBefore_14 : decode cX1_leavesBefore 14 = .ok (.iload_n 3, 1) := by decide +kernel
theorem dX1_leavesBefore_15 : decode cX1_leavesBefore 15 = .ok (.iload_n 1, 1) := by decide +kernel
theorem dX1_leavesBefore_16 : decode cX1_leavesBefore 16 = .ok (.if_icmp .ge 25, 3) := by decide +kernel
theorem dX1_leavesBefore_19 : decode cX1_leavesBefore 19 = .ok (.aload_n 0, 1) := by decide +kernel
theorem dX1_leavesBefore_20 : decode cX1_leavesBefore 20 = .ok (.iload_n 3, 1) := by decide +kernel
theorem dX1_leavesBefore_21 : decode cX1_leavesBefore 21 = .ok (.invokevirtual 41, 3) := by decide +kernel
theorem dX1_leavesBefore_24 : decode cX1_leavesBefore 24 = .ok (.ifCond .ne 9, 3) := by decide +kernel
theorem dX1_leavesBefore_27 : decode cX1_leavesBefore 27 = .ok (.iload_n 2, 1) := by decide +kernel
theorem dX1_leavesBefore_28 : decode cX1_leavesBefore 28 = .ok (.iconst 1, 1) := by decide +kernel
theorem dX1_leavesBefore_29 : decode cX1_leavesBefore 29 = .ok (.iadd, 1) := by decide +kernel
theorem dX1_leavesBefore_30 : decode cX1_leavesBefore 30 = .ok (.goto 4, 3) := by decide +kernel
theorem dX1_leavesBefore_33 : decode cX1_leavesBefore 33 = .ok (.iload_n 2, 1) := by decide +kernel
theorem dX1_leavesBefore_34 : decode cX1_leavesBefore 34 = .ok (.istore_n 2, 1) := by decide +kernel
theorem dX1_leavesBefore_35 : decode cX1_leavesBefore 35 = .ok (.iinc 3 1, 3) := by decide +kernel
theorem dX1_leavesBefore_38 : decode cX1_leavesBefore 38 = .ok (.goto (-24), 3) := by decide +kernel
theorem dX1_leavesBefore_41 : decode cX1_leavesBefore 41 = .ok (.iload_n 2, 1) := by decide +kernel
theorem dX1_leavesBefore_42 : decode cX1_leavesBefore 42 = .ok (.ireturn, 1) := by decide +kernel
theorem q17 : (Jvm.Cond.initialized "TreeCodesModel") ∈ lw_all := lw_g (lw_at lw_m1 2 rfl) rfl
theorem q161 : (Jvm.Cond.instantiable "TreeCodesModel" (6 : Nat)) ∈ lw_all := lw_g (lw_at lw_m1 146 rfl) rfl
theorem q163 : (Jvm.Cond.instanceMethod ({ cls := "TreeCodesModel", name := "<init>", desc := "()V" } : Jvm.MethodName)) ∈ lw_all := lw_g (lw_at lw_m1 148 rfl) rfl
theorem q164 : (Jvm.Cond.code ({ cls := "TreeCodesModel", name := "<init>", desc := "()V" } : Jvm.MethodName) prog_3_method_1_code (1 : Nat) (Option.none : Option Jvm.ClassFile.FieldType)) ∈ lw_all := lw_g (lw_at lw_m1 149 rfl) rfl
theorem q165 : (Jvm.Cond.methodLink "TreeCodesModel" (1 : Nat) ({ cls := "java/lang/Object", name := "<init>", desc := "()V" } : Jvm.MethodName)) ∈ lw_all := lw_g (lw_at lw_m1 150 rfl) rfl
theorem q166 : (Jvm.Cond.fieldLink "TreeCodesModel" (27 : Nat) "TreeCodesModel" "size" "I") ∈ lw_all := lw_g (lw_at lw_m1 151 rfl) rfl
theorem q167 : (Jvm.Cond.fieldLink "TreeCodesModel" (7 : Nat) "TreeCodesModel" "opens" "[Z") ∈ lw_all := lw_g (lw_at lw_m1 152 rfl) rfl
theorem q168 : (Jvm.Cond.fieldLink "TreeCodesModel" (20 : Nat) "TreeCodesModel" "count" "I") ∈ lw_all := lw_g (lw_at lw_m1 153 rfl) rfl
theorem q169 : (Jvm.Cond.fieldLink "TreeCodesModel" (24 : Nat) "TreeCodesModel" "last" "I") ∈ lw_all := lw_g (lw_at lw_m1 154 rfl) rfl
theorem q170 : (Jvm.Cond.fieldLink "TreeCodesModel" (13 : Nat) "TreeCodesModel" "up" "[I") ∈ lw_all := lw_g (lw_at lw_m1 155 rfl) rfl
theorem q171 : (Jvm.Cond.fieldLink "TreeCodesModel" (17 : Nat) "TreeCodesModel" "deep" "[I") ∈ lw_all := lw_g (lw_at lw_m1 156 rfl) rfl
theorem q172 : (Jvm.Cond.lays "TreeCodesModel" "TreeCodesModel" "size" "I") ∈ lw_all := lw_g (lw_at lw_m1 157 rfl) rfl
theorem q173 : (Jvm.Cond.soleField "TreeCodesModel" "size") ∈ lw_all := lw_g (lw_at lw_m1 158 rfl) rfl
theorem q174 : (Jvm.Cond.lays "TreeCodesModel" "TreeCodesModel" "opens" "[Z") ∈ lw_all := lw_g (lw_at lw_m1 159 rfl) rfl
theorem q175 : (Jvm.Cond.soleField "TreeCodesModel" "opens") ∈ lw_all := lw_g (lw_at lw_m1 160 rfl) rfl
theorem q176 : (Jvm.Cond.lays "TreeCodesModel" "TreeCodesModel" "count" "I") ∈ lw_all := lw_g (lw_at lw_m1 161 rfl) rfl
theorem q177 : (Jvm.Cond.soleField "TreeCodesModel" "count") ∈ lw_all := lw_g (lw_at lw_m1 162 rfl) rfl
theorem q178 : (Jvm.Cond.lays "TreeCodesModel" "TreeCodesModel" "last" "I") ∈ lw_all := lw_g (lw_at lw_m1 163 rfl) rfl
theorem q179 : (Jvm.Cond.soleField "TreeCodesModel" "last") ∈ lw_all := lw_g (lw_at lw_m1 164 rfl) rfl
theorem q180 : (Jvm.Cond.lays "TreeCodesModel" "TreeCodesModel" "up" "[I") ∈ lw_all := lw_g (lw_at lw_m1 165 rfl) rfl
theorem q181 : (Jvm.Cond.soleField "TreeCodesModel" "up") ∈ lw_all := lw_g (lw_at lw_m1 166 rfl) rfl
theorem q182 : (Jvm.Cond.lays "TreeCodesModel" "TreeCodesModel" "deep" "[I") ∈ lw_all := lw_g (lw_at lw_m1 167 rfl) rfl
theorem q183 : (Jvm.Cond.soleField "TreeCodesModel" "deep") ∈ lw_all := lw_g (lw_at lw_m1 168 rfl) rfl
theorem q184 : (Jvm.Cond.superclass "TreeCodesModel" "java/lang/Object") ∈ lw_all := lw_g (lw_at lw_m1 169 rfl) rfl
theorem q188 : (Jvm.Cond.instanceMethod ({ cls := "TreeCodesModel", name := "open", desc := "()I" } : Jvm.MethodName)) ∈ lw_all := lw_g (lw_at lw_m1 173 rfl) rfl
theorem q189 : (Jvm.Cond.selects "TreeCodesModel" ({ cls := "TreeCodesModel", name := "open", desc := "()I" } : Jvm.MethodName) ({ cls := "TreeCodesModel", name := "open", desc := "()I" } : Jvm.MethodName)) ∈ lw_all := lw_g (lw_at lw_m1 174 rfl) rfl
theorem q190 : (Jvm.Cond.code ({ cls := "TreeCodesModel", name := "open", desc := "()I" } : Jvm.MethodName) prog_3_method_3_code (1 : Nat) (Option.some Jvm.ClassFile.FieldType.int)) ∈ lw_all := lw_g (lw_at lw_m1 175 rfl) rfl
theorem q191 : (Jvm.Cond.methodLink "TreeCodesModel" (30 : Nat) ({ cls := "TreeCodesModel", name := "work", desc := "()V" } : Jvm.MethodName)) ∈ lw_all := lw_g (lw_at lw_m1 176 rfl) rfl
theorem q192 : (Jvm.Cond.privateMethod ({ cls := "TreeCodesModel", name := "work", desc := "()V" } : Jvm.MethodName)) ∈ lw_tbl := lw_at lw_m1 177 rfl
theorem q193 : (Jvm.Cond.instanceMethod ({ cls := "TreeCodesModel", name := "work", desc := "()V" } : Jvm.MethodName)) ∈ lw_all := lw_g (lw_at lw_m1 178 rfl) rfl
theorem q194 : (Jvm.Cond.code ({ cls := "TreeCodesModel", name := "work", desc := "()V" } : Jvm.MethodName) prog_3_method_2_code (2 : Nat) (Option.none : Option Jvm.ClassFile.FieldType)) ∈ lw_all := lw_g (lw_at lw_m1 179 rfl) rfl
theorem q196 : (Jvm.Cond.instanceMethod ({ cls := "TreeCodesModel", name := "close", desc := "()I" } : Jvm.MethodName)) ∈ lw_all := lw_g (lw_at lw_m1 181 rfl) rfl
theorem q197 : (Jvm.Cond.selects "TreeCodesModel" ({ cls := "TreeCodesModel", name := "close", desc := "()I" } : Jvm.MethodName) ({ cls := "TreeCodesModel", name := "close", desc := "()I" } : Jvm.MethodName)) ∈ lw_all := lw_g (lw_at lw_m1 182 rfl) rfl
theorem q198 : (Jvm.Cond.code ({ cls := "TreeCodesModel", name := "close", desc := "()I" } : Jvm.MethodName) prog_3_method_4_code (1 : Nat) (Option.some Jvm.ClassFile.FieldType.int)) ∈ lw_all := lw_g (lw_at lw_m1 183 rfl) rfl
theorem q200 : (Jvm.Cond.instanceMethod ({ cls := "TreeCodesModel", name := "undo", desc := "()I" } : Jvm.MethodName)) ∈ lw_all := lw_g (lw_at lw_m1 185 rfl) rfl
theorem q201 : (Jvm.Cond.selects "TreeCodesModel" ({ cls := "TreeCodesModel", name := "undo", desc := "()I" } : Jvm.MethodName) ({ cls := "TreeCodesModel", name := "undo", desc := "()I" } : Jvm.MethodName)) ∈ lw_all := lw_g (lw_at lw_m1 186 rfl) rfl
theorem q202 : (Jvm.Cond.code ({ cls := "TreeCodesModel", name := "undo", desc := "()I" } : Jvm.MethodName) prog_3_method_5_code (1 : Nat) (Option.some Jvm.ClassFile.FieldType.int)) ∈ lw_all := lw_g (lw_at lw_m1 187 rfl) rfl
theorem q204 : (Jvm.Cond.instanceMethod ({ cls := "TreeCodesModel", name := "nodes", desc := "()I" } : Jvm.MethodName)) ∈ lw_all := lw_g (lw_at lw_m1 189 rfl) rfl
theorem q205 : (Jvm.Cond.selects "TreeCodesModel" ({ cls := "TreeCodesModel", name := "nodes", desc := "()I" } : Jvm.MethodName) ({ cls := "TreeCodesModel", name := "nodes", desc := "()I" } : Jvm.MethodName)) ∈ lw_all := lw_g (lw_at lw_m1 190 rfl) rfl
theorem q206 : (Jvm.Cond.code ({ cls := "TreeCodesModel", name := "nodes", desc := "()I" } : Jvm.MethodName) prog_3_method_6_code (1 : Nat) (Option.some Jvm.ClassFile.FieldType.int)) ∈ lw_all := lw_g (lw_at lw_m1 191 rfl) rfl
theorem q208 : (Jvm.Cond.instanceMethod ({ cls := "TreeCodesModel", name := "openNodes", desc := "()I" } : Jvm.MethodName)) ∈ lw_all := lw_g (lw_at lw_m1 193 rfl) rfl
theorem q209 : (Jvm.Cond.selects "TreeCodesModel" ({ cls := "TreeCodesModel", name := "openNodes", desc := "()I" } : Jvm.MethodName) ({ cls := "TreeCodesModel", name := "openNodes", desc := "()I" } : Jvm.MethodName)) ∈ lw_all := lw_g (lw_at lw_m1 194 rfl) rfl
theorem q210 : (Jvm.Cond.code ({ cls := "TreeCodesModel", name := "openNodes", desc := "()I" } : Jvm.MethodName) prog_3_method_7_code (1 : Nat) (Option.some Jvm.ClassFile.FieldType.int)) ∈ lw_all := lw_g (lw_at lw_m1 195 rfl) rfl
theorem q212 : (Jvm.Cond.instanceMethod ({ cls := "TreeCodesModel", name := "parent", desc := "(I)I" } : Jvm.MethodName)) ∈ lw_all := lw_g (lw_at lw_m1 197 rfl) rfl
theorem q213 : (Jvm.Cond.selects "TreeCodesModel" ({ cls := "TreeCodesModel", name := "parent", desc := "(I)I" } : Jvm.MethodName) ({ cls := "TreeCodesModel", name := "parent", desc := "(I)I" } : Jvm.MethodName)) ∈ lw_all := lw_g (lw_at lw_m1 198 rfl) rfl
theorem q214 : (Jvm.Cond.code ({ cls := "TreeCodesModel", name := "parent", desc := "(I)I" } : Jvm.MethodName) prog_3_method_9_code (2 : Nat) (Option.some Jvm.ClassFile.FieldType.int)) ∈ lw_all := lw_g (lw_at lw_m1 199 rfl) rfl
theorem q215 : (Jvm.Cond.methodLink "TreeCodesModel" (33 : Nat) ({ cls := "TreeCodesModel", name := "node", desc := "(I)Z" } : Jvm.MethodName)) ∈ lw_all := lw_g (lw_at lw_m1 200 rfl) rfl
theorem q216 : (Jvm.Cond.privateMethod ({ cls := "TreeCodesModel", name := "node", desc := "(I)Z" } : Jvm.MethodName)) ∈ lw_tbl := lw_at lw_m1 201 rfl
theorem q217 : (Jvm.Cond.instanceMethod ({ cls := "TreeCodesModel", name := "node", desc := "(I)Z" } : Jvm.MethodName)) ∈ lw_all := lw_g (lw_at lw_m1 202 rfl) rfl
theorem q218 : (Jvm.Cond.code ({ cls := "TreeCodesModel", name := "node", desc := "(I)Z" } : Jvm.MethodName) prog_3_method_8_code (2 : Nat) (Option.some Jvm.ClassFile.FieldType.boolean)) ∈ lw_all := lw_g (lw_at lw_m1 203 rfl) rfl
theorem q220 : (Jvm.Cond.instanceMethod ({ cls := "TreeCodesModel", name := "depth", desc := "(I)I" } : Jvm.MethodName)) ∈ lw_all := lw_g (lw_at lw_m1 205 rfl) rfl
theorem q221 : (Jvm.Cond.selects "TreeCodesModel" ({ cls := "TreeCodesModel", name := "depth", desc := "(I)I" } : Jvm.MethodName) ({ cls := "TreeCodesModel", name := "depth", desc := "(I)I" } : Jvm.MethodName)) ∈ lw_all := lw_g (lw_at lw_m1 206 rfl) rfl
theorem q222 : (Jvm.Cond.code ({ cls := "TreeCodesModel", name := "depth", desc := "(I)I" } : Jvm.MethodName) prog_3_method_10_code (2 : Nat) (Option.some Jvm.ClassFile.FieldType.int)) ∈ lw_all := lw_g (lw_at lw_m1 207 rfl) rfl
theorem q224 : (Jvm.Cond.instanceMethod ({ cls := "TreeCodesModel", name := "size", desc := "(I)I" } : Jvm.MethodName)) ∈ lw_all := lw_g (lw_at lw_m1 209 rfl) rfl
theorem q225 : (Jvm.Cond.selects "TreeCodesModel" ({ cls := "TreeCodesModel", name := "size", desc := "(I)I" } : Jvm.MethodName) ({ cls := "TreeCodesModel", name := "size", desc := "(I)I" } : Jvm.MethodName)) ∈ lw_all := lw_g (lw_at lw_m1 210 rfl) rfl
theorem q226 : (Jvm.Cond.code ({ cls := "TreeCodesModel", name := "size", desc := "(I)I" } : Jvm.MethodName) prog_3_method_12_code (4 : Nat) (Option.some Jvm.ClassFile.FieldType.int)) ∈ lw_all := lw_g (lw_at lw_m1 211 rfl) rfl
theorem q227 : (Jvm.Cond.methodLink "TreeCodesModel" (37 : Nat) ({ cls := "TreeCodesModel", name := "under", desc := "(II)Z" } : Jvm.MethodName)) ∈ lw_all := lw_g (lw_at lw_m1 212 rfl) rfl
theorem q228 : (Jvm.Cond.privateMethod ({ cls := "TreeCodesModel", name := "under", desc := "(II)Z" } : Jvm.MethodName)) ∈ lw_tbl := lw_at lw_m1 213 rfl
theorem q229 : (Jvm.Cond.instanceMethod ({ cls := "TreeCodesModel", name := "under", desc := "(II)Z" } : Jvm.MethodName)) ∈ lw_all := lw_g (lw_at lw_m1 214 rfl) rfl
theorem q230 : (Jvm.Cond.code ({ cls := "TreeCodesModel", name := "under", desc := "(II)Z" } : Jvm.MethodName) prog_3_method_11_code (4 : Nat) (Option.some Jvm.ClassFile.FieldType.boolean)) ∈ lw_all := lw_g (lw_at lw_m1 215 rfl) rfl
theorem q232 : (Jvm.Cond.instanceMethod ({ cls := "TreeCodesModel", name := "children", desc := "(I)I" } : Jvm.MethodName)) ∈ lw_all := lw_g (lw_at lw_m1 217 rfl) rfl
theorem q233 : (Jvm.Cond.selects "TreeCodesModel" ({ cls := "TreeCodesModel", name := "children", desc := "(I)I" } : Jvm.MethodName) ({ cls := "TreeCodesModel", name := "children", desc := "(I)I" } : Jvm.MethodName)) ∈ lw_all := lw_g (lw_at lw_m1 218 rfl) rfl
theorem q234 : (Jvm.Cond.code ({ cls := "TreeCodesModel", name := "children", desc := "(I)I" } : Jvm.MethodName) prog_3_method_14_code (2 : Nat) (Option.some Jvm.ClassFile.FieldType.int)) ∈ lw_all := lw_g (lw_at lw_m1 219 rfl) rfl
theorem q235 : (Jvm.Cond.methodLink "TreeCodesModel" (41 : Nat) ({ cls := "TreeCodesModel", name := "childrenOf", desc := "(I)I" } : Jvm.MethodName)) ∈ lw_all := lw_g (lw_at lw_m1 220 rfl) rfl
theorem q236 : (Jvm.Cond.privateMethod ({ cls := "TreeCodesModel", name := "childrenOf", desc := "(I)I" } : Jvm.MethodName)) ∈ lw_tbl := lw_at lw_m1 221 rfl
theorem q237 : (Jvm.Cond.instanceMethod ({ cls := "TreeCodesModel", name := "childrenOf", desc := "(I)I" } : Jvm.MethodName)) ∈ lw_all := lw_g (lw_at lw_m1 222 rfl) rfl
theorem q238 : (Jvm.Cond.code ({ cls := "TreeCodesModel", name := "childrenOf", desc := "(I)I" } : Jvm.MethodName) prog_3_method_13_code (4 : Nat) (Option.some Jvm.ClassFile.FieldType.int)) ∈ lw_all := lw_g (lw_at lw_m1 223 rfl) rfl
theorem q240 : (Jvm.Cond.instanceMethod ({ cls := "TreeCodesModel", name := "child", desc := "(II)I" } : Jvm.MethodName)) ∈ lw_all := lw_g (lw_at lw_m1 225 rfl) rfl
theorem q241 : (Jvm.Cond.selects "TreeCodesModel" ({ cls := "TreeCodesModel", name := "child", desc := "(II)I" } : Jvm.MethodName) ({ cls := "TreeCodesModel", name := "child", desc := "(II)I" } : Jvm.MethodName)) ∈ lw_all := lw_g (lw_at lw_m1 226 rfl) rfl
theorem q242 : (Jvm.Cond.code ({ cls := "TreeCodesModel", name := "child", desc := "(II)I" } : Jvm.MethodName) prog_3_method_15_code (6 : Nat) (Option.some Jvm.ClassFile.FieldType.int)) ∈ lw_all := lw_g (lw_at lw_m1 227 rfl) rfl
theorem q244 : (Jvm.Cond.instanceMethod ({ cls := "TreeCodesModel", name := "next", desc := "(I)I" } : Jvm.MethodName)) ∈ lw_all := lw_g (lw_at lw_m1 229 rfl) rfl
theorem q245 : (Jvm.Cond.selects "TreeCodesModel" ({ cls := "TreeCodesModel", name := "next", desc := "(I)I" } : Jvm.MethodName) ({ cls := "TreeCodesModel", name := "next", desc := "(I)I" } : Jvm.MethodName)) ∈ lw_all := lw_g (lw_at lw_m1 230 rfl) rfl
theorem q246 : (Jvm.Cond.code ({ cls := "TreeCodesModel", name := "next", desc := "(I)I" } : Jvm.MethodName) prog_3_method_16_code (4 : Nat) (Option.some Jvm.ClassFile.FieldType.int)) ∈ lw_all := lw_g (lw_at lw_m1 231 rfl) rfl
theorem q248 : (Jvm.Cond.instanceMethod ({ cls := "TreeCodesModel", name := "previous", desc := "(I)I" } : Jvm.MethodName)) ∈ lw_all := lw_g (lw_at lw_m1 233 rfl) rfl
theorem q249 : (Jvm.Cond.selects "TreeCodesModel" ({ cls := "TreeCodesModel", name := "previous", desc := "(I)I" } : Jvm.MethodName) ({ cls := "TreeCodesModel", name := "previous", desc := "(I)I" } : Jvm.MethodName)) ∈ lw_all := lw_g (lw_at lw_m1 234 rfl) rfl
theorem q250 : (Jvm.Cond.code ({ cls := "TreeCodesModel", name := "previous", desc := "(I)I" } : Jvm.MethodName) prog_3_method_17_code (4 : Nat) (Option.some Jvm.ClassFile.FieldType.int)) ∈ lw_all := lw_g (lw_at lw_m1 235 rfl) rfl
theorem q252 : (Jvm.Cond.instanceMethod ({ cls := "TreeCodesModel", name := "meet", desc := "(II)I" } : Jvm.MethodName)) ∈ lw_all := lw_g (lw_at lw_m1 237 rfl) rfl
theorem q253 : (Jvm.Cond.selects "TreeCodesModel" ({ cls := "TreeCodesModel", name := "meet", desc := "(II)I" } : Jvm.MethodName) ({ cls := "TreeCodesModel", name := "meet", desc := "(II)I" } : Jvm.MethodName)) ∈ lw_all := lw_g (lw_at lw_m1 238 rfl) rfl
theorem q254 : (Jvm.Cond.code ({ cls := "TreeCodesModel", name := "meet", desc := "(II)I" } : Jvm.MethodName) prog_3_method_18_code (6 : Nat) (Option.some Jvm.ClassFile.FieldType.int)) ∈ lw_all := lw_g (lw_at lw_m1 239 rfl) rfl
theorem q256 : (Jvm.Cond.instanceMethod ({ cls := "TreeCodesModel", name := "aboveAt", desc := "(II)I" } : Jvm.MethodName)) ∈ lw_all := lw_g (lw_at lw_m2 1 rfl) rfl
theorem q257 : (Jvm.Cond.selects "TreeCodesModel" ({ cls := "TreeCodesModel", name := "aboveAt", desc := "(II)I" } : Jvm.MethodName) ({ cls := "TreeCodesModel", name := "aboveAt", desc := "(II)I" } : Jvm.MethodName)) ∈ lw_all := lw_g (lw_at lw_m2 2 rfl) rfl
theorem q258 : (Jvm.Cond.code ({ cls := "TreeCodesModel", name := "aboveAt", desc := "(II)I" } : Jvm.MethodName) prog_3_method_19_code (5 : Nat) (Option.some Jvm.ClassFile.FieldType.int)) ∈ lw_all := lw_g (lw_at lw_m2 3 rfl) rfl
theorem q260 : (Jvm.Cond.instanceMethod ({ cls := "TreeCodesModel", name := "height", desc := "(I)I" } : Jvm.MethodName)) ∈ lw_all := lw_g (lw_at lw_m2 5 rfl) rfl
theorem q261 : (Jvm.Cond.selects "TreeCodesModel" ({ cls := "TreeCodesModel", name := "height", desc := "(I)I" } : Jvm.MethodName) ({ cls := "TreeCodesModel", name := "height", desc := "(I)I" } : Jvm.MethodName)) ∈ lw_all := lw_g (lw_at lw_m2 6 rfl) rfl
theorem q262 : (Jvm.Cond.code ({ cls := "TreeCodesModel", name := "height", desc := "(I)I" } : Jvm.MethodName) prog_3_method_20_code (4 : Nat) (Option.some Jvm.ClassFile.FieldType.int)) ∈ lw_all := lw_g (lw_at lw_m2 7 rfl) rfl
theorem q264 : (Jvm.Cond.instanceMethod ({ cls := "TreeCodesModel", name := "leavesBefore", desc := "(I)I" } : Jvm.MethodName)) ∈ lw_all := lw_g (lw_at lw_m2 9 rfl) rfl
theorem q265 : (Jvm.Cond.selects "TreeCodesModel" ({ cls := "TreeCodesModel", name := "leavesBefore", desc := "(I)I" } : Jvm.MethodName) ({ cls := "TreeCodesModel", name := "leavesBefore", desc := "(I)I" } : Jvm.MethodName)) ∈ lw_all := lw_g (lw_at lw_m2 10 rfl) rfl
theorem q266 : (Jvm.Cond.code ({ cls := "TreeCodesModel", name := "leavesBefore", desc := "(I)I" } : Jvm.MethodName) prog_3_method_21_code (4 : Nat) (Option.some Jvm.ClassFile.FieldType.int)) ∈ lw_all := lw_g (lw_at lw_m2 11 rfl) rfl
theorem in_X1 : ∀ w ∈ wsX10, w ∈ lw_all := lw_in wsX10 [172, 174, 176, 178, 180, 182] (by decide +kernel) (by decide +kernel)

/-! java/lang/Object -/
set_option maxRecDepth 100000
def RJ0 : String := "java/lang/Object"
abbrev cJ0_init : ByteArray := object_method_1_code
def yJ0_init : MethodName := ⟨RJ0, "<init>", "()V"⟩
theorem dJ0_init_0 : decode cJ0_init 0 = .ok (.return_, 1) := by decide +kernel
theorem q24 : (Jvm.Cond.instanceMethod ({ cls := "java/lang/Object", name := "<init>", desc := "()V" } : Jvm.MethodName)) ∈ lw_all := lw_g (lw_at lw_m1 9 rfl) rfl
theorem q25 : (Jvm.Cond.code ({ cls := "java/lang/Object", name := "<init>", desc := "()V" } : Jvm.MethodName) object_method_1_code (1 : Nat) (Option.none : Option Jvm.ClassFile.FieldType)) ∈ lw_all := lw_g (lw_at lw_m1 10 rfl) rfl

theorem q45 : (Jvm.Cond.arrayClass Jvm.ClassFile.FieldType.byte) ∈ lw_all := lw_g (lw_at lw_m1 30 rfl) rfl
set_option maxRecDepth 100000
theorem q185 : (Jvm.Cond.arrayClass Jvm.ClassFile.FieldType.boolean) ∈ lw_all := lw_g (lw_at lw_m1 170 rfl) rfl
theorem q186 : (Jvm.Cond.arrayClass Jvm.ClassFile.FieldType.int) ∈ lw_all := lw_g (lw_at lw_m1 171 rfl) rfl
end
section
/-! the law's own entry -/
set_option maxRecDepth 100000
abbrev cL_law : ByteArray := code
theorem dL_law_0 : decode cL_law 0 = .ok (.new 7, 3) := by decide +kernel
theorem dL_law_3 : decode cL_law 3 = .ok (.dup, 1) := by decide +kernel
theorem dL_law_4 : decode cL_law 4 = .ok (.invokespecial 9, 3) := by decide +kernel
theorem dL_law_7 : decode cL_law 7 = .ok (.astore_n 1, 1) := by decide +kernel
theorem dL_law_8 : decode cL_law 8 = .ok (.new 10, 3) := by decide +kernel
theorem dL_law_11 : decode cL_law 11 = .ok (.dup, 1) := by decide +kernel
theorem dL_law_12 : decode cL_law 12 = .ok (.invokespecial 12, 3) := by decide +kernel
theorem dL_law_15 : decode cL_law 15 = .ok (.astore_n 2, 1) := by decide +kernel
theorem dL_law_16 : decode cL_law 16 = .ok (.iconst 0, 1) := by decide +kernel
theorem dL_law_17 : decode cL_law 17 = .ok (.istore_n 3, 1) := by decide +kernel
theorem dL_law_18 : decode cL_law 18 = .ok (.iload_n 3, 1) := by decide +kernel
theorem dL_law_19 : decode cL_law 19 = .ok (.aload_n 0, 1) := by decide +kernel
theorem dL_law_20 : decode cL_law 20 = .ok (.arraylength, 1) := by decide +kernel
theorem dL_law_21 : decode cL_law 21 = .ok (.iconst 3, 1) := by decide +kernel
theorem dL_law_22 : decode cL_law 22 = .ok (.isub, 1) := by decide +kernel
theorem dL_law_23 : decode cL_law 23 = .ok (.if_icmp .gt 443, 3) := by decide +kernel
theorem dL_law_26 : decode cL_law 26 = .ok (.aload_n 0, 1) := by decide +kernel
theorem dL_law_27 : decode cL_law 27 = .ok (.iload_n 3, 1) := by decide +kernel
theorem dL_law_28 : decode cL_law 28 = .ok (.iaload, 1) := by decide +kernel
theorem dL_law_29 : decode cL_law 29 = .ok (.bipush 15, 2) := by decide +kernel
theorem dL_law_31 : decode cL_law 31 = .ok (.iand, 1) := by decide +kernel
theorem dL_law_32 : decode cL_law 32 = .ok (.tableswitch 428 0 15 #[80, 93, 106, 119, 132, 145, 168, 191, 214, 237, 270, 293, 316, 349, 382, 405], 80) := by decide +kernel
theorem dL_law_112 : decode cL_law 112 = .ok (.aload_n 1, 1) := by decide +kernel
theorem dL_law_113 : decode cL_law 113 = .ok (.invokevirtual 13, 3) := by decide +kernel
theorem dL_law_116 : decode cL_law 116 = .ok (.aload_n 2, 1) := by decide +kernel
theorem dL_law_117 : decode cL_law 117 = .ok (.invokevirtual 17, 3) := by decide +kernel
theorem dL_law_120 : decode cL_law 120 = .ok (.if_icmp .eq 340, 3) := by decide +kernel
theorem dL_law_123 : decode cL_law 123 = .ok (.iconst 0, 1) := by decide +kernel
theorem dL_law_124 : decode cL_law 124 = .ok (.ireturn, 1) := by decide +kernel
theorem dL_law_125 : decode cL_law 125 = .ok (.aload_n 1, 1) := by decide +kernel
theorem dL_law_126 : decode cL_law 126 = .ok (.invokevirtual 18, 3) := by decide +kernel
theorem dL_law_129 : decode cL_law 129 = .ok (.aload_n 2, 1) := by decide +kernel
theorem dL_law_130 : decode cL_law 130 = .ok (.invokevirtual 21, 3) := by decide +kernel
theorem dL_law_133 : decode cL_law 133 = .ok (.if_icmp .eq 327, 3) := by decide +kernel
theorem dL_law_136 : decode cL_law 136 = .ok (.iconst 0, 1) := by decide +kernel
theorem dL_law_137 : decode cL_law 137 = .ok (.ireturn, 1) := by decide +kernel
theorem dL_law_138 : decode cL_law 138 = .ok (.aload_n 1, 1) := by decide +kernel
theorem dL_law_139 : decode cL_law 139 = .ok (.invokevirtual 22, 3) := by decide +kernel
theorem dL_law_142 : decode cL_law 142 = .ok (.aload_n 2, 1) := by decide +kernel
theorem dL_law_143 : decode cL_law 143 = .ok (.invokevirtual 25, 3) := by decide +kernel
theorem dL_law_146 : decode cL_law 146 = .ok (.if_icmp .eq 314, 3) := by decide +kernel
theorem dL_law_149 : decode cL_law 149 = .ok (.iconst 0, 1) := by decide +kernel
theorem dL_law_150 : decode cL_law 150 = .ok (.ireturn, 1) := by decide +kernel
theorem dL_law_151 : decode cL_law 151 = .ok (.aload_n 1, 1) := by decide +kernel
theorem dL_law_152 : decode cL_law 152 = .ok (.invokevirtual 26, 3) := by decide +kernel
theorem dL_law_155 : decode cL_law 155 = .ok (.aload_n 2, 1) := by decide +kernel
theorem dL_law_156 : decode cL_law 156 = .ok (.invokevirtual 29, 3) := by decide +kernel
theorem dL_law_159 : decode cL_law 159 = .ok (.if_icmp .eq 301, 3) := by decide +kernel
theorem dL_law_162 : decode cL_law 162 = .ok (.iconst 0, 1) := by decide +kernel
theorem dL_law_163 : decode cL_law 163 = .ok (.ireturn, 1) := by decide +kernel
theorem dL_law_164 : decode cL_law 164 = .ok (.aload_n 1, 1) := by decide +kernel
theorem dL_law_165 : decode cL_law 165 = .ok (.invokevirtual 30, 3) := by decide +kernel
theorem dL_law_168 : decode cL_law 168 = .ok (.aload_n 2, 1) := by decide +kernel
theorem dL_law_169 : decode cL_law 169 = .ok (.invokevirtual 33, 3) := by decide +kernel
theorem dL_law_172 : decode cL_law 172 = .ok (.if_icmp .eq 288, 3) := by decide +kernel
theorem dL_law_175 : decode cL_law 175 = .ok (.iconst 0, 1) := by decide +kernel
theorem dL_law_176 : decode cL_law 176 = .ok (.ireturn, 1) := by decide +kernel
theorem dL_law_177 : decode cL_law 177 = .ok (.aload_n 1, 1) := by decide +kernel
theorem dL_law_178 : decode cL_law 178 = .ok (.aload_n 0, 1) := by decide +kernel
theorem dL_law_179 : decode cL_law 179 = .ok (.iload_n 3, 1) := by decide +kernel
theorem dL_law_180 : decode cL_law 180 = .ok (.iconst 1, 1) := by decide +kernel
theorem dL_law_181 : decode cL_law 181 = .ok (.iadd, 1) := by decide +kernel
theorem dL_law_182 : decode cL_law 182 = .ok (.iaload, 1) := by decide +kernel
theorem dL_law_183 : decode cL_law 183 = .ok (.invokevirtual 34, 3) := by decide +kernel
theorem dL_law_186 : decode cL_law 186 = .ok (.aload_n 2, 1) := by decide +kernel
theorem dL_law_187 : decode cL_law 187 = .ok (.aload_n 0, 1) := by decide +kernel
theorem dL_law_188 : decode cL_law 188 = .ok (.iload_n 3, 1) := by decide +kernel
theorem dL_law_189 : decode cL_law 189 = .ok (.iconst 1, 1) := by decide +kernel
theorem dL_law_190 : decode cL_law 190 = .ok (.iadd, 1) := by decide +kernel
theorem dL_law_191 : decode cL_law 191 = .ok (.iaload, 1) := by decide +kernel
theorem dL_law_192 : decode cL_law 192 = .ok (.invokevirtual 38, 3) := by decide +kernel
theorem dL_law_195 : decode cL_law 195 = .ok (.if_icmp .eq 265, 3) := by decide +kernel
theorem dL_law_198 : decode cL_law 198 = .ok (.iconst 0, 1) := by decide +kernel
theorem dL_law_199 : decode cL_law 199 = .ok (.ireturn, 1) := by decide +kernel
theorem dL_law_200 : decode cL_law 200 = .ok (.aload_n 1, 1) := by decide +kernel
theorem dL_law_201 : decode cL_law 201 = .ok (.aload_n 0, 1) := by decide +kernel
theorem dL_law_202 : decode cL_law 202 = .ok (.iload_n 3, 1) := by decide +kernel
theorem dL_law_203 : decode cL_law 203 = .ok (.iconst 1, 1) := by decide +kernel
theorem dL_law_204 : decode cL_law 204 = .ok (.iadd, 1) := by decide +kernel
theorem dL_law_205 : decode cL_law 205 = .ok (.iaload, 1) := by decide +kernel
theorem dL_law_206 : decode cL_law 206 = .ok (.invokevirtual 39, 3) := by decide +kernel
theorem dL_law_209 : decode cL_law 209 = .ok (.aload_n 2, 1) := by decide +kernel
theorem dL_law_210 : decode cL_law 210 = .ok (.aload_n 0, 1) := by decide +kernel
theorem dL_law_211 : decode cL_law 211 = .ok (.iload_n 3, 1) := by decide +kernel
theorem dL_law_212 : decode cL_law 212 = .ok (.iconst 1, 1) := by decide +kernel
theorem dL_law_213 : decode cL_law 213 = .ok (.iadd, 1) := by decide +kernel
theorem dL_law_214 : decode cL_law 214 = .ok (.iaload, 1) := by decide +kernel
theorem dL_law_215 : decode cL_law 215 = .ok (.invokevirtual 42, 3) := by decide +kernel
theorem dL_law_218 : decode cL_law 218 = .ok (.if_icmp .eq 242, 3) := by decide +kernel
theorem dL_law_221 : decode cL_law 221 = .ok (.iconst 0, 1) := by decide +kernel
theorem dL_law_222 : decode cL_law 222 = .ok (.ireturn, 1) := by decide +kernel
theorem dL_law_223 : decode cL_law 223 = .ok (.aload_n 1, 1) := by decide +kernel
theorem dL_law_224 : decode cL_law 224 = .ok (.aload_n 0, 1) := by decide +kernel
theorem dL_law_225 : decode cL_law 225 = .ok (.iload_n 3, 1) := by decide +kernel
theorem dL_law_226 : decode cL_law 226 = .ok (.iconst 1, 1) := by decide +kernel
theorem dL_law_227 : decode cL_law 227 = .ok (.iadd, 1) := by decide +kernel
theorem dL_law_228 : decode cL_law 228 = .ok (.iaload, 1) := by decide +kernel
theorem dL_law_229 : decode cL_law 229 = .ok (.invokevirtual 43, 3) := by decide +kernel
theorem dL_law_232 : decode cL_law 232 = .ok (.aload_n 2, 1) := by decide +kernel
theorem dL_law_233 : decode cL_law 233 = .ok (.aload_n 0, 1) := by decide +kernel
theorem dL_law_234 : decode cL_law 234 = .ok (.iload_n 3, 1) := by decide +kernel
theorem dL_law_235 : decode cL_law 235 = .ok (.iconst 1, 1) := by decide +kernel
theorem dL_law_236 : decode cL_law 236 = .ok (.iadd, 1) := by decide +kernel
theorem dL_law_237 : decode cL_law 237 = .ok (.iaload, 1) := by decide +kernel
theorem dL_law_238 : decode cL_law 238 = .ok (.invokevirtual 46, 3) := by decide +kernel
theorem dL_law_241 : decode cL_law 241 = .ok (.if_icmp .eq 219, 3) := by decide +kernel
theorem dL_law_244 : decode cL_law 244 = .ok (.iconst 0, 1) := by decide +kernel
theorem dL_law_245 : decode cL_law 245 = .ok (.ireturn, 1) := by decide +kernel
theorem dL_law_246 : decode cL_law 246 = .ok (.aload_n 1, 1) := by decide +kernel
theorem dL_law_247 : decode cL_law 247 = .ok (.aload_n 0, 1) := by decide +kernel
theorem dL_law_248 : decode cL_law 248 = .ok (.iload_n 3, 1) := by decide +kernel
theorem dL_law_249 : decode cL_law 249 = .ok (.iconst 1, 1) := by decide +kernel
theorem dL_law_250 : decode cL_law 250 = .ok (.iadd, 1) := by decide +kernel
theorem dL_law_251 : decode cL_law 251 = .ok (.iaload, 1) := by decide +kernel
theorem dL_law_252 : decode cL_law 252 = .ok (.invokevirtual 47, 3) := by decide +kernel
theorem dL_law_255 : decode cL_law 255 = .ok (.aload_n 2, 1) := by decide +kernel
theorem dL_law_256 : decode cL_law 256 = .ok (.aload_n 0, 1) := by decide +kernel
theorem dL_law_257 : decode cL_law 257 = .ok (.iload_n 3, 1) := by decide +kernel
theorem dL_law_258 : decode cL_law 258 = .ok (.iconst 1, 1) := by decide +kernel
theorem dL_law_259 : decode cL_law 259 = .ok (.iadd, 1) := by decide +kernel
theorem dL_law_260 : decode cL_law 260 = .ok (.iaload, 1) := by decide +kernel
theorem dL_law_261 : decode cL_law 261 = .ok (.invokevirtual 50, 3) := by decide +kernel
theorem dL_law_264 : decode cL_law 264 = .ok (.if_icmp .eq 196, 3) := by decide +kernel
theorem dL_law_267 : decode cL_law 267 = .ok (.iconst 0, 1) := by decide +kernel
theorem dL_law_268 : decode cL_law 268 = .ok (.ireturn, 1) := by decide +kernel
theorem dL_law_269 : decode cL_law 269 = .ok (.aload_n 1, 1) := by decide +kernel
theorem dL_law_270 : decode cL_law 270 = .ok (.aload_n 0, 1) := by decide +kernel
theorem dL_law_271 : decode cL_law 271 = .ok (.iload_n 3, 1) := by decide +kernel
theorem dL_law_272 : decode cL_law 272 = .ok (.iconst 1, 1) := by decide +kernel
theorem dL_law_273 : decode cL_law 273 = .ok (.iadd, 1) := by decide +kernel
theorem dL_law_274 : decode cL_law 274 = .ok (.iaload, 1) := by decide +kernel
theorem dL_law_275 : decode cL_law 275 = .ok (.aload_n 0, 1) := by decide +kernel
theorem dL_law_276 : decode cL_law 276 = .ok (.iload_n 3, 1) := by decide +kernel
theorem dL_law_277 : decode cL_law 277 = .ok (.iconst 2, 1) := by decide +kernel
theorem dL_law_278 : decode cL_law 278 = .ok (.iadd, 1) := by decide +kernel
theorem dL_law_279 : decode cL_law 279 = .ok (.iaload, 1) := by decide +kernel
theorem dL_law_280 : decode cL_law 280 = .ok (.invokevirtual 51, 3) := by decide +kernel
theorem dL_law_283 : decode cL_law 283 = .ok (.aload_n 2, 1) := by decide +kernel
theorem dL_law_284 : decode cL_law 284 = .ok (.aload_n 0, 1) := by decide +kernel
theorem dL_law_285 : decode cL_law 285 = .ok (.iload_n 3, 1) := by decide +kernel
theorem dL_law_286 : decode cL_law 286 = .ok (.iconst 1, 1) := by decide +kernel
theorem dL_law_287 : decode cL_law 287 = .ok (.iadd, 1) := by decide +kernel
theorem dL_law_288 : decode cL_law 288 = .ok (.iaload, 1) := by decide +kernel
theorem dL_law_289 : decode cL_law 289 = .ok (.aload_n 0, 1) := by decide +kernel
theorem dL_law_290 : decode cL_law 290 = .ok (.iload_n 3, 1) := by decide +kernel
theorem dL_law_291 : decode cL_law 291 = .ok (.iconst 2, 1) := by decide +kernel
theorem dL_law_292 : decode cL_law 292 = .ok (.iadd, 1) := by decide +kernel
theorem dL_law_293 : decode cL_law 293 = .ok (.iaload, 1) := by decide +kernel
theorem dL_law_294 : decode cL_law 294 = .ok (.invokevirtual 55, 3) := by decide +kernel
theorem dL_law_297 : decode cL_law 297 = .ok (.if_icmp .eq 163, 3) := by decide +kernel
theorem dL_law_300 : decode cL_law 300 = .ok (.iconst 0, 1) := by decide +kernel
theorem dL_law_301 : decode cL_law 301 = .ok (.ireturn, 1) := by decide +kernel
theorem dL_law_302 : decode cL_law 302 = .ok (.aload_n 1, 1) := by decide +kernel
theorem dL_law_303 : decode cL_law 303 = .ok (.aload_n 0, 1) := by decide +kernel
theorem dL_law_304 : decode cL_law 304 = .ok (.iload_n 3, 1) := by decide +kernel
theorem dL_law_305 : decode cL_law 305 = .ok (.iconst 1, 1) := by decide +kernel
theorem dL_law_306 : decode cL_law 306 = .ok (.iadd, 1) := by decide +kernel
theorem dL_law_307 : decode cL_law 307 = .ok (.iaload, 1) := by decide +kernel
theorem dL_law_308 : decode cL_law 308 = .ok (.invokevirtual 56, 3) := by decide +kernel
theorem dL_law_311 : decode cL_law 311 = .ok (.aload_n 2, 1) := by decide +kernel
theorem dL_law_312 : decode cL_law 312 = .ok (.aload_n 0, 1) := by decide +kernel
theorem dL_law_313 : decode cL_law 313 = .ok (.iload_n 3, 1) := by decide +kernel
theorem dL_law_314 : decode cL_law 314 = .ok (.iconst 1, 1) := by decide +kernel
theorem dL_law_315 : decode cL_law 315 = .ok (.iadd, 1) := by decide +kernel
theorem dL_law_316 : decode cL_law 316 = .ok (.iaload, 1) := by decide +kernel
theorem dL_law_317 : decode cL_law 317 = .ok (.invokevirtual 59, 3) := by decide +kernel
theorem dL_law_320 : decode cL_law 320 = .ok (.if_icmp .eq 140, 3) := by decide +kernel
theorem dL_law_323 : decode cL_law 323 = .ok (.iconst 0, 1) := by decide +kernel
theorem dL_law_324 : decode cL_law 324 = .ok (.ireturn, 1) := by decide +kernel
theorem dL_law_325 : decode cL_law 325 = .ok (.aload_n 1, 1) := by decide +kernel
theorem dL_law_326 : decode cL_law 326 = .ok (.aload_n 0, 1) := by decide +kernel
theorem dL_law_327 : decode cL_law 327 = .ok (.iload_n 3, 1) := by decide +kernel
theorem dL_law_328 : decode cL_law 328 = .ok (.iconst 1, 1) := by decide +kernel
theorem dL_law_329 : decode cL_law 329 = .ok (.iadd, 1) := by decide +kernel
theorem dL_law_330 : decode cL_law 330 = .ok (.iaload, 1) := by decide +kernel
theorem dL_law_331 : decode cL_law 331 = .ok (.invokevirtual 60, 3) := by decide +kernel
theorem dL_law_334 : decode cL_law 334 = .ok (.aload_n 2, 1) := by decide +kernel
theorem dL_law_335 : decode cL_law 335 = .ok (.aload_n 0, 1) := by decide +kernel
theorem dL_law_336 : decode cL_law 336 = .ok (.iload_n 3, 1) := by decide +kernel
theorem dL_law_337 : decode cL_law 337 = .ok (.iconst 1, 1) := by decide +kernel
theorem dL_law_338 : decode cL_law 338 = .ok (.iadd, 1) := by decide +kernel
theorem dL_law_339 : decode cL_law 339 = .ok (.iaload, 1) := by decide +kernel
theorem dL_law_340 : decode cL_law 340 = .ok (.invokevirtual 63, 3) := by decide +kernel
theorem dL_law_343 : decode cL_law 343 = .ok (.if_icmp .eq 117, 3) := by decide +kernel
theorem dL_law_346 : decode cL_law 346 = .ok (.iconst 0, 1) := by decide +kernel
theorem dL_law_347 : decode cL_law 347 = .ok (.ireturn, 1) := by decide +kernel
theorem dL_law_348 : decode cL_law 348 = .ok (.aload_n 1, 1) := by decide +kernel
theorem dL_law_349 : decode cL_law 349 = .ok (.aload_n 0, 1) := by decide +kernel
theorem dL_law_350 : decode cL_law 350 = .ok (.iload_n 3, 1) := by decide +kernel
theorem dL_law_351 : decode cL_law 351 = .ok (.iconst 1, 1) := by decide +kernel
theorem dL_law_352 : decode cL_law 352 = .ok (.iadd, 1) := by decide +kernel
theorem dL_law_353 : decode cL_law 353 = .ok (.iaload, 1) := by decide +kernel
theorem dL_law_354 : decode cL_law 354 = .ok (.aload_n 0, 1) := by decide +kernel
theorem dL_law_355 : decode cL_law 355 = .ok (.iload_n 3, 1) := by decide +kernel
theorem dL_law_356 : decode cL_law 356 = .ok (.iconst 2, 1) := by decide +kernel
theorem dL_law_357 : decode cL_law 357 = .ok (.iadd, 1) := by decide +kernel
theorem dL_law_358 : decode cL_law 358 = .ok (.iaload, 1) := by decide +kernel
theorem dL_law_359 : decode cL_law 359 = .ok (.invokevirtual 64, 3) := by decide +kernel
theorem dL_law_362 : decode cL_law 362 = .ok (.aload_n 2, 1) := by decide +kernel
theorem dL_law_363 : decode cL_law 363 = .ok (.aload_n 0, 1) := by decide +kernel
theorem dL_law_364 : decode cL_law 364 = .ok (.iload_n 3, 1) := by decide +kernel
theorem dL_law_365 : decode cL_law 365 = .ok (.iconst 1, 1) := by decide +kernel
theorem dL_law_366 : decode cL_law 366 = .ok (.iadd, 1) := by decide +kernel
theorem dL_law_367 : decode cL_law 367 = .ok (.iaload, 1) := by decide +kernel
theorem dL_law_368 : decode cL_law 368 = .ok (.aload_n 0, 1) := by decide +kernel
theorem dL_law_369 : decode cL_law 369 = .ok (.iload_n 3, 1) := by decide +kernel
theorem dL_law_370 : decode cL_law 370 = .ok (.iconst 2, 1) := by decide +kernel
theorem dL_law_371 : decode cL_law 371 = .ok (.iadd, 1) := by decide +kernel
theorem dL_law_372 : decode cL_law 372 = .ok (.iaload, 1) := by decide +kernel
theorem dL_law_373 : decode cL_law 373 = .ok (.invokevirtual 67, 3) := by decide +kernel
theorem dL_law_376 : decode cL_law 376 = .ok (.if_icmp .eq 84, 3) := by decide +kernel
theorem dL_law_379 : decode cL_law 379 = .ok (.iconst 0, 1) := by decide +kernel
theorem dL_law_380 : decode cL_law 380 = .ok (.ireturn, 1) := by decide +kernel
theorem dL_law_381 : decode cL_law 381 = .ok (.aload_n 1, 1) := by decide +kernel
theorem dL_law_382 : decode cL_law 382 = .ok (.aload_n 0, 1) := by decide +kernel
theorem dL_law_383 : decode cL_law 383 = .ok (.iload_n 3, 1) := by decide +kernel
theorem dL_law_384 : decode cL_law 384 = .ok (.iconst 1, 1) := by decide +kernel
theorem dL_law_385 : decode cL_law 385 = .ok (.iadd, 1) := by decide +kernel
theorem dL_law_386 : decode cL_law 386 = .ok (.iaload, 1) := by decide +kernel
theorem dL_law_387 : decode cL_law 387 = .ok (.aload_n 0, 1) := by decide +kernel
theorem dL_law_388 : decode cL_law 388 = .ok (.iload_n 3, 1) := by decide +kernel
theorem dL_law_389 : decode cL_law 389 = .ok (.iconst 2, 1) := by decide +kernel
theorem dL_law_390 : decode cL_law 390 = .ok (.iadd, 1) := by decide +kernel
theorem dL_law_391 : decode cL_law 391 = .ok (.iaload, 1) := by decide +kernel
theorem dL_law_392 : decode cL_law 392 = .ok (.invokevirtual 68, 3) := by decide +kernel
theorem dL_law_395 : decode cL_law 395 = .ok (.aload_n 2, 1) := by decide +kernel
theorem dL_law_396 : decode cL_law 396 = .ok (.aload_n 0, 1) := by decide +kernel
theorem dL_law_397 : decode cL_law 397 = .ok (.iload_n 3, 1) := by decide +kernel
theorem dL_law_398 : decode cL_law 398 = .ok (.iconst 1, 1) := by decide +kernel
theorem dL_law_399 : decode cL_law 399 = .ok (.iadd, 1) := by decide +kernel
theorem dL_law_400 : decode cL_law 400 = .ok (.iaload, 1) := by decide +kernel
theorem dL_law_401 : decode cL_law 401 = .ok (.aload_n 0, 1) := by decide +kernel
theorem dL_law_402 : decode cL_law 402 = .ok (.iload_n 3, 1) := by decide +kernel
theorem dL_law_403 : decode cL_law 403 = .ok (.iconst 2, 1) := by decide +kernel
theorem dL_law_404 : decode cL_law 404 = .ok (.iadd, 1) := by decide +kernel
theorem dL_law_405 : decode cL_law 405 = .ok (.iaload, 1) := by decide +kernel
theorem dL_law_406 : decode cL_law 406 = .ok (.invokevirtual 71, 3) := by decide +kernel
theorem dL_law_409 : decode cL_law 409 = .ok (.if_icmp .eq 51, 3) := by decide +kernel
theorem dL_law_412 : decode cL_law 412 = .ok (.iconst 0, 1) := by decide +kernel
theorem dL_law_413 : decode cL_law 413 = .ok (.ireturn, 1) := by decide +kernel
theorem dL_law_414 : decode cL_law 414 = .ok (.aload_n 1, 1) := by decide +kernel
theorem dL_law_415 : decode cL_law 415 = .ok (.aload_n 0, 1) := by decide +kernel
theorem dL_law_416 : decode cL_law 416 = .ok (.iload_n 3, 1) := by decide +kernel
theorem dL_law_417 : decode cL_law 417 = .ok (.iconst 1, 1) := by decide +kernel
theorem dL_law_418 : decode cL_law 418 = .ok (.iadd, 1) := by decide +kernel
theorem dL_law_419 : decode cL_law 419 = .ok (.iaload, 1) := by decide +kernel
theorem dL_law_420 : decode cL_law 420 = .ok (.invokevirtual 72, 3) := by decide +kernel
theorem dL_law_423 : decode cL_law 423 = .ok (.aload_n 2, 1) := by decide +kernel
theorem dL_law_424 : decode cL_law 424 = .ok (.aload_n 0, 1) := by decide +kernel
theorem dL_law_425 : decode cL_law 425 = .ok (.iload_n 3, 1) := by decide +kernel
theorem dL_law_426 : decode cL_law 426 = .ok (.iconst 1, 1) := by decide +kernel
theorem dL_law_427 : decode cL_law 427 = .ok (.iadd, 1) := by decide +kernel
theorem dL_law_428 : decode cL_law 428 = .ok (.iaload, 1) := by decide +kernel
theorem dL_law_429 : decode cL_law 429 = .ok (.invokevirtual 75, 3) := by decide +kernel
theorem dL_law_432 : decode cL_law 432 = .ok (.if_icmp .eq 28, 3) := by decide +kernel
theorem dL_law_435 : decode cL_law 435 = .ok (.iconst 0, 1) := by decide +kernel
theorem dL_law_436 : decode cL_law 436 = .ok (.ireturn, 1) := by decide +kernel
theorem dL_law_437 : decode cL_law 437 = .ok (.aload_n 1, 1) := by decide +kernel
theorem dL_law_438 : decode cL_law 438 = .ok (.aload_n 0, 1) := by decide +kernel
theorem dL_law_439 : decode cL_law 439 = .ok (.iload_n 3, 1) := by decide +kernel
theorem dL_law_440 : decode cL_law 440 = .ok (.iconst 1, 1) := by decide +kernel
theorem dL_law_441 : decode cL_law 441 = .ok (.iadd, 1) := by decide +kernel
theorem dL_law_442 : decode cL_law 442 = .ok (.iaload, 1) := by decide +kernel
theorem dL_law_443 : decode cL_law 443 = .ok (.invokevirtual 76, 3) := by decide +kernel
theorem dL_law_446 : decode cL_law 446 = .ok (.aload_n 2, 1) := by decide +kernel
theorem dL_law_447 : decode cL_law 447 = .ok (.aload_n 0, 1) := by decide +kernel
theorem dL_law_448 : decode cL_law 448 = .ok (.iload_n 3, 1) := by decide +kernel
theorem dL_law_449 : decode cL_law 449 = .ok (.iconst 1, 1) := by decide +kernel
theorem dL_law_450 : decode cL_law 450 = .ok (.iadd, 1) := by decide +kernel
theorem dL_law_451 : decode cL_law 451 = .ok (.iaload, 1) := by decide +kernel
theorem dL_law_452 : decode cL_law 452 = .ok (.invokevirtual 79, 3) := by decide +kernel
theorem dL_law_455 : decode cL_law 455 = .ok (.if_icmp .eq 5, 3) := by decide +kernel
theorem dL_law_458 : decode cL_law 458 = .ok (.iconst 0, 1) := by decide +kernel
theorem dL_law_459 : decode cL_law 459 = .ok (.ireturn, 1) := by decide +kernel
theorem dL_law_460 : decode cL_law 460 = .ok (.iinc 3 3, 3) := by decide +kernel
theorem dL_law_463 : decode cL_law 463 = .ok (.goto (-445), 3) := by decide +kernel
theorem dL_law_466 : decode cL_law 466 = .ok (.iconst 1, 1) := by decide +kernel
theorem dL_law_467 : decode cL_law 467 = .ok (.ireturn, 1) := by decide +kernel

theorem q15 : (Jvm.Cond.initialized "TreeCodesLaw") ∈ lw_all := lw_g (lw_at lw_m1 0 rfl) rfl
set_option maxRecDepth 100000
theorem q18 : (Jvm.Cond.classLink "TreeCodesLaw" (7 : Nat) "TreeCodes") ∈ lw_all := lw_g (lw_at lw_m1 3 rfl) rfl
theorem q20 : (Jvm.Cond.methodLink "TreeCodesLaw" (9 : Nat) ({ cls := "TreeCodes", name := "<init>", desc := "()V" } : Jvm.MethodName)) ∈ lw_all := lw_g (lw_at lw_m1 5 rfl) rfl
theorem q46 : (Jvm.Cond.methodLink "TreeCodesLaw" (13 : Nat) ({ cls := "TreeCodes", name := "open", desc := "()I" } : Jvm.MethodName)) ∈ lw_all := lw_g (lw_at lw_m1 31 rfl) rfl
theorem q66 : (Jvm.Cond.methodLink "TreeCodesLaw" (18 : Nat) ({ cls := "TreeCodes", name := "close", desc := "()I" } : Jvm.MethodName)) ∈ lw_all := lw_g (lw_at lw_m1 51 rfl) rfl
theorem q83 : (Jvm.Cond.methodLink "TreeCodesLaw" (22 : Nat) ({ cls := "TreeCodes", name := "undo", desc := "()I" } : Jvm.MethodName)) ∈ lw_all := lw_g (lw_at lw_m1 68 rfl) rfl
theorem q87 : (Jvm.Cond.methodLink "TreeCodesLaw" (26 : Nat) ({ cls := "TreeCodes", name := "nodes", desc := "()I" } : Jvm.MethodName)) ∈ lw_all := lw_g (lw_at lw_m1 72 rfl) rfl
theorem q88 : (Jvm.Cond.methodLink "TreeCodesLaw" (30 : Nat) ({ cls := "TreeCodes", name := "openNodes", desc := "()I" } : Jvm.MethodName)) ∈ lw_all := lw_g (lw_at lw_m1 73 rfl) rfl
theorem q89 : (Jvm.Cond.methodLink "TreeCodesLaw" (34 : Nat) ({ cls := "TreeCodes", name := "parent", desc := "(I)I" } : Jvm.MethodName)) ∈ lw_all := lw_g (lw_at lw_m1 74 rfl) rfl
theorem q101 : (Jvm.Cond.methodLink "TreeCodesLaw" (39 : Nat) ({ cls := "TreeCodes", name := "depth", desc := "(I)I" } : Jvm.MethodName)) ∈ lw_all := lw_g (lw_at lw_m1 86 rfl) rfl
theorem q105 : (Jvm.Cond.methodLink "TreeCodesLaw" (43 : Nat) ({ cls := "TreeCodes", name := "size", desc := "(I)I" } : Jvm.MethodName)) ∈ lw_all := lw_g (lw_at lw_m1 90 rfl) rfl
theorem q117 : (Jvm.Cond.methodLink "TreeCodesLaw" (47 : Nat) ({ cls := "TreeCodes", name := "children", desc := "(I)I" } : Jvm.MethodName)) ∈ lw_all := lw_g (lw_at lw_m1 102 rfl) rfl
theorem q133 : (Jvm.Cond.methodLink "TreeCodesLaw" (51 : Nat) ({ cls := "TreeCodes", name := "child", desc := "(II)I" } : Jvm.MethodName)) ∈ lw_all := lw_g (lw_at lw_m1 118 rfl) rfl
theorem q134 : (Jvm.Cond.methodLink "TreeCodesLaw" (56 : Nat) ({ cls := "TreeCodes", name := "next", desc := "(I)I" } : Jvm.MethodName)) ∈ lw_all := lw_g (lw_at lw_m1 119 rfl) rfl
theorem q135 : (Jvm.Cond.methodLink "TreeCodesLaw" (60 : Nat) ({ cls := "TreeCodes", name := "previous", desc := "(I)I" } : Jvm.MethodName)) ∈ lw_all := lw_g (lw_at lw_m1 120 rfl) rfl
theorem q139 : (Jvm.Cond.methodLink "TreeCodesLaw" (64 : Nat) ({ cls := "TreeCodes", name := "meet", desc := "(II)I" } : Jvm.MethodName)) ∈ lw_all := lw_g (lw_at lw_m1 124 rfl) rfl
theorem q151 : (Jvm.Cond.methodLink "TreeCodesLaw" (68 : Nat) ({ cls := "TreeCodes", name := "aboveAt", desc := "(II)I" } : Jvm.MethodName)) ∈ lw_all := lw_g (lw_at lw_m1 136 rfl) rfl
theorem q152 : (Jvm.Cond.methodLink "TreeCodesLaw" (72 : Nat) ({ cls := "TreeCodes", name := "height", desc := "(I)I" } : Jvm.MethodName)) ∈ lw_all := lw_g (lw_at lw_m1 137 rfl) rfl
theorem q156 : (Jvm.Cond.methodLink "TreeCodesLaw" (76 : Nat) ({ cls := "TreeCodes", name := "leavesBefore", desc := "(I)I" } : Jvm.MethodName)) ∈ lw_all := lw_g (lw_at lw_m1 141 rfl) rfl
theorem q160 : (Jvm.Cond.classLink "TreeCodesLaw" (10 : Nat) "TreeCodesModel") ∈ lw_all := lw_g (lw_at lw_m1 145 rfl) rfl
theorem q162 : (Jvm.Cond.methodLink "TreeCodesLaw" (12 : Nat) ({ cls := "TreeCodesModel", name := "<init>", desc := "()V" } : Jvm.MethodName)) ∈ lw_all := lw_g (lw_at lw_m1 147 rfl) rfl
theorem q187 : (Jvm.Cond.methodLink "TreeCodesLaw" (17 : Nat) ({ cls := "TreeCodesModel", name := "open", desc := "()I" } : Jvm.MethodName)) ∈ lw_all := lw_g (lw_at lw_m1 172 rfl) rfl
theorem q195 : (Jvm.Cond.methodLink "TreeCodesLaw" (21 : Nat) ({ cls := "TreeCodesModel", name := "close", desc := "()I" } : Jvm.MethodName)) ∈ lw_all := lw_g (lw_at lw_m1 180 rfl) rfl
theorem q199 : (Jvm.Cond.methodLink "TreeCodesLaw" (25 : Nat) ({ cls := "TreeCodesModel", name := "undo", desc := "()I" } : Jvm.MethodName)) ∈ lw_all := lw_g (lw_at lw_m1 184 rfl) rfl
theorem q203 : (Jvm.Cond.methodLink "TreeCodesLaw" (29 : Nat) ({ cls := "TreeCodesModel", name := "nodes", desc := "()I" } : Jvm.MethodName)) ∈ lw_all := lw_g (lw_at lw_m1 188 rfl) rfl
theorem q207 : (Jvm.Cond.methodLink "TreeCodesLaw" (33 : Nat) ({ cls := "TreeCodesModel", name := "openNodes", desc := "()I" } : Jvm.MethodName)) ∈ lw_all := lw_g (lw_at lw_m1 192 rfl) rfl
theorem q211 : (Jvm.Cond.methodLink "TreeCodesLaw" (38 : Nat) ({ cls := "TreeCodesModel", name := "parent", desc := "(I)I" } : Jvm.MethodName)) ∈ lw_all := lw_g (lw_at lw_m1 196 rfl) rfl
theorem q219 : (Jvm.Cond.methodLink "TreeCodesLaw" (42 : Nat) ({ cls := "TreeCodesModel", name := "depth", desc := "(I)I" } : Jvm.MethodName)) ∈ lw_all := lw_g (lw_at lw_m1 204 rfl) rfl
theorem q223 : (Jvm.Cond.methodLink "TreeCodesLaw" (46 : Nat) ({ cls := "TreeCodesModel", name := "size", desc := "(I)I" } : Jvm.MethodName)) ∈ lw_all := lw_g (lw_at lw_m1 208 rfl) rfl
theorem q231 : (Jvm.Cond.methodLink "TreeCodesLaw" (50 : Nat) ({ cls := "TreeCodesModel", name := "children", desc := "(I)I" } : Jvm.MethodName)) ∈ lw_all := lw_g (lw_at lw_m1 216 rfl) rfl
theorem q239 : (Jvm.Cond.methodLink "TreeCodesLaw" (55 : Nat) ({ cls := "TreeCodesModel", name := "child", desc := "(II)I" } : Jvm.MethodName)) ∈ lw_all := lw_g (lw_at lw_m1 224 rfl) rfl
theorem q243 : (Jvm.Cond.methodLink "TreeCodesLaw" (59 : Nat) ({ cls := "TreeCodesModel", name := "next", desc := "(I)I" } : Jvm.MethodName)) ∈ lw_all := lw_g (lw_at lw_m1 228 rfl) rfl
theorem q247 : (Jvm.Cond.methodLink "TreeCodesLaw" (63 : Nat) ({ cls := "TreeCodesModel", name := "previous", desc := "(I)I" } : Jvm.MethodName)) ∈ lw_all := lw_g (lw_at lw_m1 232 rfl) rfl
theorem q251 : (Jvm.Cond.methodLink "TreeCodesLaw" (67 : Nat) ({ cls := "TreeCodesModel", name := "meet", desc := "(II)I" } : Jvm.MethodName)) ∈ lw_all := lw_g (lw_at lw_m1 236 rfl) rfl
theorem q255 : (Jvm.Cond.methodLink "TreeCodesLaw" (71 : Nat) ({ cls := "TreeCodesModel", name := "aboveAt", desc := "(II)I" } : Jvm.MethodName)) ∈ lw_all := lw_g (lw_at lw_m2 0 rfl) rfl
theorem q259 : (Jvm.Cond.methodLink "TreeCodesLaw" (75 : Nat) ({ cls := "TreeCodesModel", name := "height", desc := "(I)I" } : Jvm.MethodName)) ∈ lw_all := lw_g (lw_at lw_m2 4 rfl) rfl
theorem q263 : (Jvm.Cond.methodLink "TreeCodesLaw" (79 : Nat) ({ cls := "TreeCodesModel", name := "leavesBefore", desc := "(I)I" } : Jvm.MethodName)) ∈ lw_all := lw_g (lw_at lw_m2 8 rfl) rfl
end
section
/-! PURE PART: a row of brackets b (true: opening), n of them; its counts and levels; what each question asks, in plain words -/
def zI (z : Int) : Int32 := Int32.ofInt z
theorem zI_add (a b : Int) : zI a + zI b = zI (a + b) := (Int32.ofInt_add a b).symm
theorem zI_sub (a b : Int) : zI a - zI b = zI (a - b) := (Int32.ofInt_sub a b).symm
theorem zI_mul (a b : Int) : zI a * zI b = zI (a * b) := (Int32.ofInt_mul a b).symm
theorem zI_n (n : Nat) : nI n = zI (n : Int) := (Int32.ofInt_eq_ofNat).symm
def zs (a : Int) : Prop := -2147483648 ≤ a ∧ a < 2147483648
theorem zI_toInt {a : Int} (h : zs a) : (zI a).toInt = a := Int32.toInt_ofInt_of_le (by have := h.1; omega) (by have := h.2; omega)
theorem zI_of (x : Int32) : x = zI x.toInt := (Int32.ofInt_toInt x).symm
theorem zI_lt {a b : Int} (ha : zs a) (hb : zs b) : zI a < zI b ↔ a < b := by
  rw [Int32.lt_iff_toInt_lt, zI_toInt ha, zI_toInt hb]
theorem zI_le {a b : Int} (ha : zs a) (hb : zs b) : zI a ≤ zI b ↔ a ≤ b := by
  rw [Int32.le_iff_toInt_le, zI_toInt ha, zI_toInt hb]
theorem zI_eq {a b : Int} (ha : zs a) (hb : zs b) : zI a = zI b ↔ a = b := by
  rw [← Int32.toInt_inj, zI_toInt ha, zI_toInt hb]
theorem zs_of (x : Int32) : zs x.toInt := ⟨by have := Int32.le_toInt x; omega, by have := Int32.toInt_lt x; omega⟩
theorem zI_inc {a b k : Int} (h : a + k = b) : zI a + Int32.ofInt k = zI b := by rw [← h]; exact zI_add a k
theorem zI_in {k n : Nat} (h : k < n) (hn : n < 2 ^ 31) : vp_in (zI (k : Int)) n := by
  rw [← zI_n]; exact vp_in_nI h hn
theorem zI_cl {k : Nat} (h : k < 2 ^ 31) : (zI (k : Int)).toNatClampNeg = k := by
  rw [← zI_n]; exact nI_clamp h
theorem zI_div {a : Nat} (h : a < 2 ^ 31) : zI (a : Int) / zI 8 = zI ((a / 8 : Nat) : Int) := by
  have e := pk_div (a := a) (d := 8) h (by decide) (by decide)
  rw [zI_n, zI_n, zI_n] at e
  exact e
theorem zI_rem {a : Nat} (h : a < 2 ^ 31) : zI (a : Int) - zI (a : Int) / zI 8 * zI 8 = zI ((a % 8 : Nat) : Int) := by
  have e := pk_rem (a := a) (d := 8) h (by decide) (by decide)
  rw [zI_n, zI_n, zI_n] at e
  exact e
/-- an answer that is a truth value -/
def tc_bit (P : Prop) (r : Int32) : Prop := (P ∧ r = 1) ∨ (¬ P ∧ r = 0)
def tc_o (x : Bool) : Nat := if x = true then 1 else 0
def tc_d (x : Bool) : Int := if x = true then 1 else -1
theorem tc_o_t : tc_o true = 1 := rfl
theorem tc_o_f : tc_o false = 0 := rfl
theorem tc_d_t : tc_d true = 1 := rfl
theorem tc_d_f : tc_d false = -1 := rfl
def tc_cnt (b : Nat → Bool) : Nat → Nat
  | 0 => 0
  | n + 1 => tc_cnt b n + tc_o (b n)
def tc_lev (b : Nat → Bool) (i : Nat) : Int := 2 * (tc_cnt b i : Int) - (i : Int)
theorem tc_cnt_0 (b : Nat → Bool) : tc_cnt b 0 = 0 := rfl
theorem tc_cnt_s (b : Nat → Bool) (i : Nat) : tc_cnt b (i + 1) = tc_cnt b i + tc_o (b i) := rfl
theorem tc_cnt_t {b : Nat → Bool} {i : Nat} (h : b i = true) : tc_cnt b (i + 1) = tc_cnt b i + 1 := by rw [tc_cnt_s, h, tc_o_t]
theorem tc_cnt_f {b : Nat → Bool} {i : Nat} (h : b i = false) : tc_cnt b (i + 1) = tc_cnt b i := by rw [tc_cnt_s, h, tc_o_f]; omega
theorem tc_lev_s (b : Nat → Bool) (i : Nat) : tc_lev b (i + 1) = tc_lev b i + tc_d (b i) := by
  unfold tc_lev
  rw [tc_cnt_s]
  cases b i
  · rw [tc_o_f, tc_d_f]; omega
  · rw [tc_o_t, tc_d_t]; omega
theorem tc_lev_t {b : Nat → Bool} {i : Nat} (h : b i = true) : tc_lev b (i + 1) = tc_lev b i + 1 := by rw [tc_lev_s, h, tc_d_t]
theorem tc_lev_f {b : Nat → Bool} {i : Nat} (h : b i = false) : tc_lev b (i + 1) = tc_lev b i - 1 := by rw [tc_lev_s, h, tc_d_f]; omega
theorem tc_lev_0 (b : Nat → Bool) : tc_lev b 0 = 0 := by unfold tc_lev; rw [tc_cnt_0]; omega
theorem tc_lev_c (b : Nat → Bool) (i : Nat) : tc_lev b i = 2 * (tc_cnt b i : Int) - (i : Int) := rfl
/-- a step of the level is one up or one down -/
theorem tc_lev_1 (b : Nat → Bool) (i : Nat) : (b i = true ∧ tc_lev b (i + 1) = tc_lev b i + 1) ∨ (b i = false ∧ tc_lev b (i + 1) = tc_lev b i - 1) := by
  cases h : b i
  · exact Or.inr ⟨rfl, tc_lev_f h⟩
  · exact Or.inl ⟨rfl, tc_lev_t h⟩
theorem tc_cnt_le (b : Nat → Bool) (i : Nat) : tc_cnt b i ≤ i := by
  induction i with
  | zero => exact Nat.le_refl 0
  | succ k ih =>
    cases h : b k
    · rw [tc_cnt_f h]; omega
    · rw [tc_cnt_t h]; omega
theorem tc_lev_le (b : Nat → Bool) (i : Nat) : tc_lev b i ≤ (i : Int) := by
  have h := tc_cnt_le b i
  rw [tc_lev_c]; omega
theorem tc_lev_ge (b : Nat → Bool) (i : Nat) : -(i : Int) ≤ tc_lev b i := by
  rw [tc_lev_c]; omega
theorem tc_cnt_mono {b : Nat → Bool} {i j : Nat} (h : i ≤ j) : tc_cnt b i ≤ tc_cnt b j := by
  induction h with
  | refl => exact Nat.le_refl _
  | step _ ih => exact Nat.le_trans ih (Nat.le_add_right _ _)
theorem tc_cnt_lt {b : Nat → Bool} {i j : Nat} (hb : b i = true) (h : i < j) : tc_cnt b i < tc_cnt b j := by
  have h1 := tc_cnt_mono (b := b) (show i + 1 ≤ j from h)
  rw [tc_cnt_t hb] at h1
  omega
theorem tc_lt_of_cnt {b : Nat → Bool} {i j : Nat} (h : tc_cnt b i < tc_cnt b j) : i < j := by
  rcases Nat.lt_or_ge i j with q | q
  · exact q
  · have := tc_cnt_mono (b := b) q
    omega
theorem tc_inj {b : Nat → Bool} {i j : Nat} (hi : b i = true) (hj : b j = true) (h : tc_cnt b i = tc_cnt b j) : i = j := by
  rcases Nat.lt_trichotomy i j with q | q | q
  · have := tc_cnt_lt hi q; omega
  · exact q
  · have := tc_cnt_lt hj q; omega
theorem tc_cnt_cong {b b' : Nat → Bool} {n : Nat} (h : ∀ i, i < n → b' i = b i) : ∀ k, k ≤ n → tc_cnt b' k = tc_cnt b k := by
  intro k
  induction k with
  | zero => intro _; rfl
  | succ k ih =>
    intro hk
    rw [tc_cnt_s, tc_cnt_s, ih (by omega), h k (by omega)]
theorem tc_lev_cong {b b' : Nat → Bool} {n : Nat} (h : ∀ i, i < n → b' i = b i) (k : Nat) (hk : k ≤ n) : tc_lev b' k = tc_lev b k := by
  rw [tc_lev_c, tc_lev_c, tc_cnt_cong h k hk]
/-- no opening bracket between two places: the count stays -/
theorem tc_cnt_flat {b : Nat → Bool} {i j : Nat} (h : i ≤ j) (hf : ∀ k, i ≤ k → k < j → b k = false) : tc_cnt b j = tc_cnt b i := by
  induction h with
  | refl => rfl
  | @step m hm ih =>
    rw [tc_cnt_f (hf m hm (Nat.lt_succ_self m))]
    exact ih (fun k h1 h2 => hf k h1 (Nat.lt_succ_of_lt h2))
theorem tc_place {b : Nat → Bool} {n v : Nat} (h : v < tc_cnt b n) : ∃ p, p < n ∧ b p = true ∧ tc_cnt b p = v := by
  induction n with
  | zero => exact absurd h (Nat.not_lt_zero _)
  | succ k ih =>
    by_cases q : v < tc_cnt b k
    · obtain ⟨p, h1, h2, h3⟩ := ih q
      exact ⟨p, by omega, h2, h3⟩
    · cases hb : b k
      · rw [tc_cnt_f hb] at h; omega
      · rw [tc_cnt_t hb] at h; exact ⟨k, by omega, hb, by omega⟩
/-- every beginning of the row is level -/
def tc_ok (n : Nat) (b : Nat → Bool) : Prop := ∀ i, i ≤ n → 0 ≤ tc_lev b i
def tc_par (b : Nat → Bool) (p k : Nat) : Prop := p < k ∧ b p = true ∧ tc_lev b p + 1 = tc_lev b k ∧ ∀ i, p < i → i ≤ k → tc_lev b p < tc_lev b i
def tc_tp (b : Nat → Bool) (k : Nat) (z : Int) : Prop := (tc_lev b k = 0 ∧ z = -1) ∨ ∃ p, tc_par b p k ∧ z = (tc_cnt b p : Int)
def tc_anc (b : Nat → Bool) (p q : Nat) : Prop := p ≤ q ∧ ∀ i, p < i → i ≤ q → tc_lev b p < tc_lev b i
def tc_bk (b : Nat → Bool) (g : Int) (k q : Nat) : Prop := q < k ∧ b q = true ∧ tc_lev b q = g ∧ ∀ i, q < i → i ≤ k → g < tc_lev b i
def tc_end (n : Nat) (b : Nat → Bool) (p e : Nat) : Prop := p < e ∧ e ≤ n ∧ (∀ i, p < i → i ≤ e → tc_lev b p < tc_lev b i) ∧ (e < n → tc_lev b (e + 1) = tc_lev b p)
def tc_sib (b : Nat → Bool) (p q : Nat) : Prop := tc_lev b p = tc_lev b q ∧ ∀ i, p ≤ i → i ≤ q → tc_lev b p ≤ tc_lev b i
theorem tc_bk_ex {b : Nat → Bool} {g : Int} (hg : 0 ≤ g) : ∀ k, g < tc_lev b k → ∃ q, tc_bk b g k q := by
  intro k
  induction k with
  | zero => intro h; rw [tc_lev_0] at h; omega
  | succ k ih =>
    intro h
    by_cases q : g < tc_lev b k
    · obtain ⟨r, h1, h2, h3, h4⟩ := ih q
      refine ⟨r, by omega, h2, h3, fun i a c => ?_⟩
      by_cases e : i = k + 1
      · rw [e]; exact h
      · exact h4 i a (by omega)
    · rcases tc_lev_1 b k with ⟨u, v⟩ | ⟨u, v⟩
      · refine ⟨k, by omega, u, by omega, fun i a c => ?_⟩
        have e : i = k + 1 := by omega
        rw [e]; exact h
      · omega
theorem tc_bk_par {b : Nat → Bool} {k q : Nat} (h : tc_bk b (tc_lev b k - 1) k q) : tc_par b q k := by
  obtain ⟨h1, h2, h3, h4⟩ := h
  exact ⟨h1, h2, by omega, fun i a c => by rw [h3]; exact h4 i a c⟩
theorem tc_tp_ex {b : Nat → Bool} {k : Nat} (h : 0 ≤ tc_lev b k) : ∃ z, tc_tp b k z := by
  by_cases q : tc_lev b k = 0
  · exact ⟨-1, Or.inl ⟨q, rfl⟩⟩
  · obtain ⟨r, hr⟩ := tc_bk_ex (b := b) (g := tc_lev b k - 1) (by omega) k (by omega)
    exact ⟨_, Or.inr ⟨r, tc_bk_par hr, rfl⟩⟩
theorem tc_par_uniq {b : Nat → Bool} {p q k : Nat} (h : tc_par b p k) (h' : tc_par b q k) : p = q := by
  obtain ⟨a1, a2, a3, a4⟩ := h
  obtain ⟨b1, b2, b3, b4⟩ := h'
  rcases Nat.lt_trichotomy p q with u | u | u
  · have := a4 q u (by omega); omega
  · exact u
  · have := b4 p u (by omega); omega
theorem tc_tp_uniq {n : Nat} {b : Nat → Bool} (hok : tc_ok n b) {k : Nat} (hk : k ≤ n) {z z' : Int} (h : tc_tp b k z) (h' : tc_tp b k z') : z = z' := by
  rcases h with ⟨h1, h2⟩ | ⟨p, h1, h2⟩ <;> rcases h' with ⟨h3, h4⟩ | ⟨q, h3, h4⟩
  · omega
  · have := hok q (by have := h3.1; omega)
    have := h3.2.2.1
    omega
  · have := hok p (by have := h1.1; omega)
    have := h1.2.2.1
    omega
  · rw [h2, h4, tc_par_uniq h1 h3]
theorem tc_tp_open {b : Nat → Bool} {k : Nat} (h : b k = true) : tc_tp b (k + 1) (tc_cnt b k : Int) := by
  refine Or.inr ⟨k, ⟨by omega, h, (tc_lev_t h).symm, fun i a c => ?_⟩, rfl⟩
  have e : i = k + 1 := by omega
  rw [e, tc_lev_t h]; omega
theorem tc_tp_close {b : Nat → Bool} {k p : Nat} {z : Int} (h : b k = false) (hp : tc_par b p k) (hz : tc_tp b p z) : tc_tp b (k + 1) z := by
  obtain ⟨a1, a2, a3, a4⟩ := hp
  have e := tc_lev_f h
  rcases hz with ⟨h1, h2⟩ | ⟨q, ⟨b1, b2, b3, b4⟩, h2⟩
  · exact Or.inl ⟨by omega, h2⟩
  · refine Or.inr ⟨q, ⟨by omega, b2, by omega, fun i u v => ?_⟩, h2⟩
    rcases Nat.lt_or_ge p i with w | w
    · by_cases ek : i = k + 1
      · rw [ek]; omega
      · have := a4 i w (by omega); omega
    · exact b4 i u w
theorem tc_tp_par {b : Nat → Bool} {p q : Nat} {z : Int} (hb : b p = true) (h : tc_tp b q z) : z = (tc_cnt b p : Int) → tc_par b p q := by
  intro e
  rcases h with ⟨h1, h2⟩ | ⟨r, h1, h2⟩
  · omega
  · have er : r = p := tc_inj h1.2.1 hb (by omega)
    rw [← er]; exact h1
theorem tc_par_tp {n : Nat} {b : Nat → Bool} (hok : tc_ok n b) {p q : Nat} (hq : q ≤ n) {z : Int} (h : tc_tp b q z) (hp : tc_par b p q) : z = (tc_cnt b p : Int) := tc_tp_uniq hok hq h (Or.inr ⟨p, hp, rfl⟩)
theorem tc_sib_of {n : Nat} {b : Nat → Bool} (hok : tc_ok n b) {p q : Nat} (hpq : p < q) (hq : q ≤ n) {z : Int} (h1 : tc_tp b p z) (h2 : tc_tp b q z) : tc_sib b p q := by
  rcases h1 with ⟨a1, a2⟩ | ⟨r, ⟨a1, a2, a3, a4⟩, a5⟩ <;> rcases h2 with ⟨c1, c2⟩ | ⟨r', ⟨c1, c2, c3, c4⟩, c5⟩
  · exact ⟨by omega, fun i u v => by have := hok i (by omega); omega⟩
  · omega
  · omega
  · have e : r' = r := tc_inj c2 a2 (by omega)
    subst e
    exact ⟨by omega, fun i u v => by have := c4 i (by omega) v; omega⟩
theorem tc_sib_tp {n : Nat} {b : Nat → Bool} (hok : tc_ok n b) {p q : Nat} (hpq : p < q) (hq : q ≤ n) {z z' : Int} (h1 : tc_tp b p z) (h2 : tc_tp b q z') (h : tc_sib b p q) : z = z' := by
  refine tc_tp_uniq hok hq ?_ h2
  obtain ⟨s1, s2⟩ := h
  rcases h1 with ⟨a1, a2⟩ | ⟨r, ⟨a1, a2, a3, a4⟩, a5⟩
  · exact Or.inl ⟨by omega, a2⟩
  · refine Or.inr ⟨r, ⟨by omega, a2, by omega, fun i u v => ?_⟩, a5⟩
    rcases Nat.lt_or_ge p i with w | w
    · have := s2 i (by omega) v; omega
    · exact a4 i u w
theorem tc_anc_refl (b : Nat → Bool) (p : Nat) : tc_anc b p p := ⟨Nat.le_refl p, fun i h1 h2 => by omega⟩
theorem tc_anc_lev {b : Nat → Bool} {p q : Nat} (h : tc_anc b p q) : tc_lev b p ≤ tc_lev b q := by
  by_cases e : p = q
  · rw [e]; omega
  · have := h.2 q (by have := h.1; omega) (Nat.le_refl q); omega
/-- ancestors of one place at one level are one -/
theorem tc_anc_uniq {b : Nat → Bool} {p p' q : Nat} (h : tc_anc b p q) (h' : tc_anc b p' q) (e : tc_lev b p = tc_lev b p') : p = p' := by
  rcases Nat.lt_trichotomy p p' with u | u | u
  · have := h.2 p' u h'.1; omega
  · exact u
  · have := h'.2 p u h.1; omega
theorem tc_anc_root {n : Nat} {b : Nat → Bool} (hok : tc_ok n b) {p q : Nat} (hq : q ≤ n) (hne : p ≠ q) (h0 : tc_lev b q = 0) : ¬ tc_anc b p q := by
  intro h
  have h1 := h.2 q (by have := h.1; omega) (Nat.le_refl q)
  have := hok p (by have := h.1; omega)
  omega
theorem tc_anc_up {b : Nat → Bool} {p q r : Nat} (hne : p ≠ q) (h : tc_par b r q) : tc_anc b p q ↔ tc_anc b p r := by
  obtain ⟨a1, a2, a3, a4⟩ := h
  constructor
  · intro hq
    have h1 := hq.2 q (by have := hq.1; omega) (Nat.le_refl q)
    have h2 : p ≤ r := by
      rcases Nat.lt_or_ge r p with u | u
      · have := a4 p u hq.1; omega
      · exact u
    exact ⟨h2, fun i u v => hq.2 i u (by omega)⟩
  · intro hr
    have h1 := tc_anc_lev hr
    refine ⟨by have := hr.1; omega, fun i u v => ?_⟩
    rcases Nat.lt_or_ge r i with w | w
    · have := a4 i w v; omega
    · exact hr.2 i u w
/-- below a node: what lies between its brackets -/
theorem tc_anc_end {n : Nat} {b : Nat → Bool} {p e q : Nat} (he : tc_end n b p e) (hq : q < n) (hb : b q = true) : tc_anc b p q ↔ (p ≤ q ∧ q < e) := by
  obtain ⟨e1, e2, e3, e4⟩ := he
  constructor
  · intro h
    refine ⟨h.1, ?_⟩
    rcases Nat.lt_or_ge q e with u | u
    · exact u
    · have e5 := e4 (by omega)
      by_cases eq : q = e
      · have h1 := tc_lev_t hb
        have h2 := tc_anc_lev h
        rw [eq] at h1 h2
        omega
      · have := h.2 (e + 1) (by omega) (by omega); omega
  · intro h
    exact ⟨h.1, fun i u v => e3 i u (by omega)⟩
theorem tc_end_ex {n : Nat} {b : Nat → Bool} {p : Nat} (hp : p < n) (hb : b p = true) : ∃ e, tc_end n b p e := by
  have key : ∀ f j, n ≤ j + f → p < j → j ≤ n → (∀ i, p < i → i ≤ j → tc_lev b p < tc_lev b i) → ∃ e, tc_end n b p e := by
    intro f
    induction f with
    | zero => intro j h1 h2 h3 h4; exact ⟨j, h2, h3, h4, fun h => by omega⟩
    | succ f ih =>
      intro j h1 h2 h3 h4
      by_cases hj : j = n
      · exact ⟨j, h2, h3, h4, fun h => by omega⟩
      · by_cases q : tc_lev b p < tc_lev b (j + 1)
        · refine ih (j + 1) (by omega) (by omega) (by omega) (fun i u v => ?_)
          by_cases ei : i = j + 1
          · rw [ei]; exact q
          · exact h4 i u (by omega)
        · refine ⟨j, h2, h3, h4, fun _ => ?_⟩
          have h5 := h4 j h2 (Nat.le_refl j)
          rcases tc_lev_1 b j with ⟨u, v⟩ | ⟨u, v⟩ <;> omega
  refine key n (p + 1) (by omega) (by omega) (by omega) (fun i u v => ?_)
  have e : i = p + 1 := by omega
  rw [e, tc_lev_t hb]; omega
theorem tc_end_uniq {n : Nat} {b : Nat → Bool} {p e e' : Nat} (h : tc_end n b p e) (h' : tc_end n b p e') : e = e' := by
  obtain ⟨a1, a2, a3, a4⟩ := h
  obtain ⟨c1, c2, c3, c4⟩ := h'
  rcases Nat.lt_trichotomy e e' with u | u | u
  · have := c3 (e + 1) (by omega) (by omega); have := a4 (by omega); omega
  · exact u
  · have := a3 (e' + 1) (by omega) (by omega); have := c4 (by omega); omega
-- ===== counting =====
noncomputable def tc_one (P : Prop) : Nat := @ite Nat P (Classical.propDecidable P) 1 0
theorem tc_one_t {P : Prop} (h : P) : tc_one P = 1 := by unfold tc_one; exact if_pos h
theorem tc_one_f {P : Prop} (h : ¬ P) : tc_one P = 0 := by unfold tc_one; exact if_neg h
noncomputable def tc_num (P : Nat → Prop) : Nat → Nat
  | 0 => 0
  | k + 1 => tc_num P k + tc_one (P k)
theorem tc_num_0 (P : Nat → Prop) : tc_num P 0 = 0 := rfl
theorem tc_num_s (P : Nat → Prop) (k : Nat) : tc_num P (k + 1) = tc_num P k + tc_one (P k) := rfl
theorem tc_num_t {P : Nat → Prop} {k : Nat} (h : P k) : tc_num P (k + 1) = tc_num P k + 1 := by rw [tc_num_s, tc_one_t h]
theorem tc_num_f {P : Nat → Prop} {k : Nat} (h : ¬ P k) : tc_num P (k + 1) = tc_num P k := by rw [tc_num_s, tc_one_f h]; omega
theorem tc_num_le (P : Nat → Prop) (k : Nat) : tc_num P k ≤ k := by
  induction k with
  | zero => exact Nat.le_refl 0
  | succ k ih =>
    by_cases h : P k
    · rw [tc_num_t h]; omega
    · rw [tc_num_f h]; omega
theorem tc_num_mono {P : Nat → Prop} {i j : Nat} (h : i ≤ j) : tc_num P i ≤ tc_num P j := by
  induction h with
  | refl => exact Nat.le_refl _
  | step _ ih => exact Nat.le_trans ih (Nat.le_add_right _ _)
theorem tc_num_flat {P : Nat → Prop} {i j : Nat} (h : i ≤ j) (hf : ∀ k, i ≤ k → k < j → ¬ P k) : tc_num P j = tc_num P i := by
  induction h with
  | refl => rfl
  | @step m hm ih =>
    rw [tc_num_f (hf m hm (Nat.lt_succ_self m))]
    exact ih (fun k h1 h2 => hf k h1 (Nat.lt_succ_of_lt h2))
theorem tc_num_lt {P : Nat → Prop} {i j : Nat} (hi : P i) (h : i < j) : tc_num P i < tc_num P j := by
  have h1 := tc_num_mono (P := P) (show i + 1 ≤ j from h)
  rw [tc_num_t hi] at h1
  omega
theorem tc_num_inj {P : Nat → Prop} {i j : Nat} (hi : P i) (hj : P j) (h : tc_num P i = tc_num P j) : i = j := by
  rcases Nat.lt_trichotomy i j with q | q | q
  · have := tc_num_lt hi q; omega
  · exact q
  · have := tc_num_lt hj q; omega
theorem tc_num_cong {P P' : Nat → Prop} {n : Nat} (h : ∀ i, i < n → (P i ↔ P' i)) : ∀ k, k ≤ n → tc_num P k = tc_num P' k := by
  intro k
  induction k with
  | zero => intro _; rfl
  | succ k ih =>
    intro hk
    by_cases q : P k
    · rw [tc_num_t q, tc_num_t ((h k (by omega)).mp q), ih (by omega)]
    · rw [tc_num_f q, tc_num_f (fun w => q ((h k (by omega)).mpr w)), ih (by omega)]
/-- the next opening bracket from a place on -/
theorem tc_nxt {b : Nat → Bool} {n q : Nat} (hq : q ≤ n) (h : tc_cnt b q < tc_cnt b n) : ∃ r, q ≤ r ∧ r < n ∧ b r = true ∧ tc_cnt b r = tc_cnt b q ∧ ∀ k, q ≤ k → k < r → b k = false := by
  obtain ⟨r, h1, h2, h3⟩ := tc_place h
  have hqr : q ≤ r := by
    rcases Nat.lt_or_ge r q with u | u
    · have := tc_cnt_lt h2 u; omega
    · exact u
  refine ⟨r, hqr, h1, h2, h3, fun k u v => ?_⟩
  cases hb : b k
  · rfl
  · have h4 := tc_cnt_lt hb v
    have h5 := tc_cnt_mono (b := b) u
    omega
-- ===== what the questions ask =====
def tc_isN (n : Nat) (b : Nat → Bool) (p : Nat) (v : Int32) : Prop := p < n ∧ b p = true ∧ v = zI (tc_cnt b p : Int)
def tc_nd (n : Nat) (b : Nat → Bool) (v : Int32) : Prop := ∃ p, tc_isN n b p v
def tc_S (n : Nat) (b : Nat → Bool) (R : Nat → Int → Prop) (v r : Int32) : Prop := (¬ tc_nd n b v ∧ r = zI (-1)) ∨ ∃ p z, tc_isN n b p v ∧ R p z ∧ r = zI z
theorem tc_isN_uniq {n : Nat} {b : Nat → Bool} (hn : n ≤ 64) {p q : Nat} {v : Int32} (h : tc_isN n b p v) (h' : tc_isN n b q v) : p = q := by
  obtain ⟨h1, h2, h3⟩ := h
  obtain ⟨h4, h5, h6⟩ := h'
  have c1 := tc_cnt_le b p
  have c2 := tc_cnt_le b q
  have e := (zI_eq (a := (tc_cnt b p : Int)) (b := (tc_cnt b q : Int)) ⟨by omega, by omega⟩ ⟨by omega, by omega⟩).mp (h3.symm.trans h6)
  exact tc_inj h2 h5 (by omega)
theorem tc_S_uniq {n : Nat} {b : Nat → Bool} (hn : n ≤ 64) {R : Nat → Int → Prop} (hR : ∀ p z z', p < n → b p = true → R p z → R p z' → z = z') {v r r' : Int32} (h : tc_S n b R v r) (h' : tc_S n b R v r') : r = r' := by
  rcases h with ⟨h1, h2⟩ | ⟨p, z, h1, h2, h3⟩ <;> rcases h' with ⟨h4, h5⟩ | ⟨q, z', h4, h5, h6⟩
  · rw [h2, h5]
  · exact absurd ⟨q, h4⟩ h1
  · exact absurd ⟨p, h1⟩ h4
  · have e := tc_isN_uniq hn h1 h4
    subst e
    rw [h3, h6, hR p z z' h1.1 h1.2.1 h2 h5]
def tc_Rsize (n : Nat) (b : Nat → Bool) (p : Nat) (z : Int) : Prop := ∃ e, tc_end n b p e ∧ z = (tc_cnt b e : Int) - (tc_cnt b p : Int)
def tc_kid (b : Nat → Bool) (p : Nat) : Nat → Prop := fun i => b i = true ∧ tc_par b p i
def tc_Rchildren (n : Nat) (b : Nat → Bool) (p : Nat) (z : Int) : Prop := z = (tc_num (tc_kid b p) n : Int)
def tc_Rchild (n : Nat) (b : Nat → Bool) (k : Int32) (p : Nat) (z : Int) : Prop := (∃ q, q < n ∧ tc_kid b p q ∧ k = zI (tc_num (tc_kid b p) q : Int) ∧ z = (tc_cnt b q : Int)) ∨ ((∀ q, q < n → tc_kid b p q → k ≠ zI (tc_num (tc_kid b p) q : Int)) ∧ z = -1)
def tc_Rnext (n : Nat) (b : Nat → Bool) (p : Nat) (z : Int) : Prop := (∃ q, p < q ∧ q < n ∧ b q = true ∧ tc_sib b p q ∧ (∀ i, p < i → i < q → b i = true → ¬ tc_sib b p i) ∧ z = (tc_cnt b q : Int)) ∨ ((∀ i, p < i → i < n → b i = true → ¬ tc_sib b p i) ∧ z = -1)
def tc_Rprev (b : Nat → Bool) (p : Nat) (z : Int) : Prop := (∃ q, q < p ∧ b q = true ∧ tc_sib b q p ∧ (∀ i, q < i → i < p → b i = true → ¬ tc_sib b i p) ∧ z = (tc_cnt b q : Int)) ∨ ((∀ i, i < p → b i = true → ¬ tc_sib b i p) ∧ z = -1)
def tc_Rabove (b : Nat → Bool) (d : Int32) (p : Nat) (z : Int) : Prop := (∃ q, b q = true ∧ tc_anc b q p ∧ d = zI (tc_lev b q) ∧ z = (tc_cnt b q : Int)) ∨ ((∀ q, b q = true → tc_anc b q p → d ≠ zI (tc_lev b q)) ∧ z = -1)
def tc_Rheight (n : Nat) (b : Nat → Bool) (p : Nat) (z : Int) : Prop := (∃ q, q < n ∧ b q = true ∧ tc_anc b p q ∧ z = tc_lev b q - tc_lev b p) ∧ ∀ q, q < n → b q = true → tc_anc b p q → tc_lev b q - tc_lev b p ≤ z
def tc_lf (b : Nat → Bool) : Nat → Prop := fun i => b i = true ∧ b (i + 1) = false
def tc_Rleaves (b : Nat → Bool) (p : Nat) (z : Int) : Prop := z = (tc_num (tc_lf b) p : Int)
def tc_Rmeet (b : Nat → Bool) (p q : Nat) (z : Int) : Prop := (∃ c, b c = true ∧ tc_anc b c p ∧ tc_anc b c q ∧ (∀ i, b i = true → tc_anc b i p → tc_anc b i q → tc_lev b i ≤ tc_lev b c) ∧ z = (tc_cnt b c : Int)) ∨ ((∀ i, b i = true → tc_anc b i p → tc_anc b i q → False) ∧ z = -1)
def tc_Smeet (n : Nat) (b : Nat → Bool) (v w r : Int32) : Prop := (¬ (tc_nd n b v ∧ tc_nd n b w) ∧ r = zI (-1)) ∨ ∃ p q z, tc_isN n b p v ∧ tc_isN n b q w ∧ tc_Rmeet b p q z ∧ r = zI z
theorem tc_Rsize_u {n : Nat} {b : Nat → Bool} {p : Nat} {z z' : Int} (h : tc_Rsize n b p z) (h' : tc_Rsize n b p z') : z = z' := by
  obtain ⟨e, h1, h2⟩ := h
  obtain ⟨e', h3, h4⟩ := h'
  rw [h2, h4, tc_end_uniq h1 h3]
theorem tc_Rchild_u {n : Nat} {b : Nat → Bool} (hn : n ≤ 64) {k : Int32} {p : Nat} {z z' : Int} (h : tc_Rchild n b k p z) (h' : tc_Rchild n b k p z') : z = z' := by
  rcases h with ⟨q, h1, h2, h3, h4⟩ | ⟨h1, h2⟩ <;> rcases h' with ⟨q', h5, h6, h7, h8⟩ | ⟨h5, h6⟩
  · have c1 := tc_num_le (tc_kid b p) q
    have c2 := tc_num_le (tc_kid b p) q'
    have e := (zI_eq (a := (tc_num (tc_kid b p) q : Int)) (b := (tc_num (tc_kid b p) q' : Int)) ⟨by omega, by omega⟩ ⟨by omega, by omega⟩).mp (h3.symm.trans h7)
    rw [h4, h8, tc_num_inj h2 h6 (by omega)]
  · exact absurd h3 (h5 q h1 h2)
  · exact absurd h7 (h1 q' h5 h6)
  · rw [h2, h6]
theorem tc_Rnext_u {n : Nat} {b : Nat → Bool} {p : Nat} {z z' : Int} (h : tc_Rnext n b p z) (h' : tc_Rnext n b p z') : z = z' := by
  rcases h with ⟨q, h1, h2, h3, h4, h5, h6⟩ | ⟨h1, h2⟩ <;> rcases h' with ⟨q', g1, g2, g3, g4, g5, g6⟩ | ⟨g1, g2⟩
  · rcases Nat.lt_trichotomy q q' with u | u | u
    · exact absurd h4 (g5 q h1 u h3)
    · rw [h6, g6, u]
    · exact absurd g4 (h5 q' g1 u g3)
  · exact absurd h4 (g1 q h1 h2 h3)
  · exact absurd g4 (h1 q' g1 g2 g3)
  · rw [h2, g2]
theorem tc_Rprev_u {b : Nat → Bool} {p : Nat} {z z' : Int} (h : tc_Rprev b p z) (h' : tc_Rprev b p z') : z = z' := by
  rcases h with ⟨q, h1, h3, h4, h5, h6⟩ | ⟨h1, h2⟩ <;> rcases h' with ⟨q', g1, g3, g4, g5, g6⟩ | ⟨g1, g2⟩
  · rcases Nat.lt_trichotomy q q' with u | u | u
    · exact absurd g4 (h5 q' u g1 g3)
    · rw [h6, g6, u]
    · exact absurd h4 (g5 q u h1 h3)
  · exact absurd h4 (g1 q h1 h3)
  · exact absurd g4 (h1 q' g1 g3)
  · rw [h2, g2]
theorem tc_zlev {b : Nat → Bool} {i : Nat} (h : i ≤ 64) : zs (tc_lev b i) := by
  have h1 := tc_lev_le b i
  have h2 := tc_lev_ge b i
  exact ⟨by omega, by omega⟩
theorem tc_Rabove_u {b : Nat → Bool} {d : Int32} {p : Nat} (hp : p ≤ 64) {z z' : Int} (h : tc_Rabove b d p z) (h' : tc_Rabove b d p z') : z = z' := by
  rcases h with ⟨q, h1, h2, h3, h4⟩ | ⟨h1, h2⟩ <;> rcases h' with ⟨q', g1, g2, g3, g4⟩ | ⟨g1, g2⟩
  · have l1 := h2.1
    have l2 := g2.1
    have e := (zI_eq (tc_zlev (b := b) (i := q) (by omega)) (tc_zlev (b := b) (i := q') (by omega))).mp (h3.symm.trans g3)
    rw [h4, g4, tc_anc_uniq h2 g2 e]
  · exact absurd h3 (g1 q h1 h2)
  · exact absurd g3 (h1 q' g1 g2)
  · rw [h2, g2]
theorem tc_Rheight_u {n : Nat} {b : Nat → Bool} {p : Nat} {z z' : Int} (h : tc_Rheight n b p z) (h' : tc_Rheight n b p z') : z = z' := by
  obtain ⟨⟨q, h1, h2, h3, h4⟩, h5⟩ := h
  obtain ⟨⟨q', g1, g2, g3, g4⟩, g5⟩ := h'
  have u := h5 q' g1 g2 g3
  have v := g5 q h1 h2 h3
  omega
theorem tc_Rmeet_u {b : Nat → Bool} {p q : Nat} {z z' : Int} (h : tc_Rmeet b p q z) (h' : tc_Rmeet b p q z') : z = z' := by
  rcases h with ⟨c, h1, h2, h3, h4, h5⟩ | ⟨h1, h2⟩ <;> rcases h' with ⟨c', g1, g2, g3, g4, g5⟩ | ⟨g1, g2⟩
  · have u := h4 c' g1 g2 g3
    have v := g4 c h1 h2 h3
    rw [h5, g5, tc_anc_uniq h2 g2 (by omega)]
  · exact (g1 c h1 h2 h3).elim
  · exact (h1 c' g1 g2 g3).elim
  · rw [h2, g2]
theorem tc_Smeet_u {n : Nat} {b : Nat → Bool} (hn : n ≤ 64) {v w r r' : Int32} (h : tc_Smeet n b v w r) (h' : tc_Smeet n b v w r') : r = r' := by
  rcases h with ⟨h1, h2⟩ | ⟨p, q, z, h1, h2, h3, h4⟩ <;> rcases h' with ⟨g1, g2⟩ | ⟨p', q', z', g1, g2, g3, g4⟩
  · rw [h2, g2]
  · exact absurd ⟨⟨p', g1⟩, ⟨q', g2⟩⟩ h1
  · exact absurd ⟨⟨p, h1⟩, ⟨q, h2⟩⟩ g1
  · have e1 := tc_isN_uniq hn h1 g1
    have e2 := tc_isN_uniq hn h2 g2
    subst e1; subst e2
    rw [h4, g4, tc_Rmeet_u h3 g3]
end
section
/-! ROWS OF OUR OWN: ints by their numbers (zI); contracts that only read (ro_), contracts that write their own cells (mu_) -/
section TCB
variable {p : Program} {l : Launch} {e : Env} {R : Room} {s : State} {m : MethodId} {args : Array Value} {below : List Frame} {meth : Method} {c : Code} {H : Heap} {locs : List Loc} {cells slots : Nat} {Q : State → Prop} {cc : ByteArray} {pc : Nat} {ls : Array Slot} {rest : List Value}
theorem z_set {x y : Int} (h : x = y) (k : W p l e R s m args below meth c H locs cells slots Q (F0 m pc ls (.int (zI y) :: rest))) : W p l e R s m args below meth c H locs cells slots Q (F0 m pc ls (.int (zI x) :: rest)) := by
  subst h; exact k
theorem z_seti {x y : Int32} (h : x = y) (k : W p l e R s m args below meth c H locs cells slots Q (F0 m pc ls (.int y :: rest))) : W p l e R s m args below meth c H locs cells slots Q (F0 m pc ls (.int x :: rest)) := by
  subst h; exact k
theorem z_iadd (hx : p.tables.exec = Jvm.exec) (hb : c.code = cc) {a b : Int} (hdg : decode cc pc = .ok (.iadd, 1)) (k : W p l e R s m args below meth c H locs cells slots Q (F0 m (pc + 1) ls (.int (zI (a + b)) :: rest))) : W p l e R s m args below meth c H locs cells slots Q (F0 m pc ls (.int (zI b) :: .int (zI a) :: rest)) :=
  lv_iadd hx hb hdg (z_seti (zI_add a b) k)
theorem z_isub (hx : p.tables.exec = Jvm.exec) (hb : c.code = cc) {a b : Int} (hdg : decode cc pc = .ok (.isub, 1)) (k : W p l e R s m args below meth c H locs cells slots Q (F0 m (pc + 1) ls (.int (zI (a - b)) :: rest))) : W p l e R s m args below meth c H locs cells slots Q (F0 m pc ls (.int (zI b) :: .int (zI a) :: rest)) :=
  lv_isub hx hb hdg (z_seti (zI_sub a b) k)
theorem z_imul (hx : p.tables.exec = Jvm.exec) (hb : c.code = cc) {a b : Int} (hdg : decode cc pc = .ok (.imul, 1)) (k : W p l e R s m args below meth c H locs cells slots Q (F0 m (pc + 1) ls (.int (zI (a * b)) :: rest))) : W p l e R s m args below meth c H locs cells slots Q (F0 m pc ls (.int (zI b) :: .int (zI a) :: rest)) :=
  lv_imul hx hb hdg (z_seti (zI_mul a b) k)
theorem zI_8 : ¬ zI 8 = 0 := by decide
theorem z_idiv (hx : p.tables.exec = Jvm.exec) (hb : c.code = cc) {a : Nat} (ha : a < 2 ^ 31) (hdg : decode cc pc = .ok (.idiv, 1)) (k : W p l e R s m args below meth c H locs cells slots Q (F0 m (pc + 1) ls (.int (zI ((a / 8 : Nat) : Int)) :: rest))) : W p l e R s m args below meth c H locs cells slots Q (F0 m pc ls (.int (zI 8) :: .int (zI (a : Int)) :: rest)) :=
  lv_idiv hx hb hdg zI_8 (z_seti (zI_div ha) k)
theorem z_irem (hx : p.tables.exec = Jvm.exec) (hb : c.code = cc) {a : Nat} (ha : a < 2 ^ 31) (hdg : decode cc pc = .ok (.irem, 1)) (k : W p l e R s m args below meth c H locs cells slots Q (F0 m (pc + 1) ls (.int (zI ((a % 8 : Nat) : Int)) :: rest))) : W p l e R s m args below meth c H locs cells slots Q (F0 m pc ls (.int (zI 8) :: .int (zI (a : Int)) :: rest)) :=
  lv_irem hx hb hdg zI_8 (z_seti (zI_rem ha) k)
theorem z_icmp_ge (hx : p.tables.exec = Jvm.exec) (hb : c.code = cc) {a b : Int} {off : Int} {tgt : Nat} (hdg : decode cc pc = .ok (.if_icmp .ge off, 3)) (ht : (pc : Int) + off = (tgt : Int)) (ha : zs a) (hb2 : zs b)
    (k1 : b ≤ a → W p l e R s m args below meth c H locs cells slots Q (F0 m tgt ls rest)) (k2 : a < b → W p l e R s m args below meth c H locs cells slots Q (F0 m (pc + 3) ls rest)) : W p l e R s m args below meth c H locs cells slots Q (F0 m pc ls (.int (zI b) :: .int (zI a) :: rest)) :=
  lv_icmp_ge hx hb hdg ht (fun h => k1 ((zI_le hb2 ha).mp h)) (fun h => k2 (Int.not_le.mp (fun q => h ((zI_le hb2 ha).mpr q))))
theorem z_icmp_le (hx : p.tables.exec = Jvm.exec) (hb : c.code = cc) {a b : Int} {off : Int} {tgt : Nat} (hdg : decode cc pc = .ok (.if_icmp .le off, 3)) (ht : (pc : Int) + off = (tgt : Int)) (ha : zs a) (hb2 : zs b)
    (k1 : a ≤ b → W p l e R s m args below meth c H locs cells slots Q (F0 m tgt ls rest)) (k2 : b < a → W p l e R s m args below meth c H locs cells slots Q (F0 m (pc + 3) ls rest)) : W p l e R s m args below meth c H locs cells slots Q (F0 m pc ls (.int (zI b) :: .int (zI a) :: rest)) :=
  lv_icmp_le hx hb hdg ht (fun h => k1 ((zI_le ha hb2).mp h)) (fun h => k2 (Int.not_le.mp (fun q => h ((zI_le ha hb2).mpr q))))
theorem z_icmp_lt (hx : p.tables.exec = Jvm.exec) (hb : c.code = cc) {a b : Int} {off : Int} {tgt : Nat} (hdg : decode cc pc = .ok (.if_icmp .lt off, 3)) (ht : (pc : Int) + off = (tgt : Int)) (ha : zs a) (hb2 : zs b)
    (k1 : a < b → W p l e R s m args below meth c H locs cells slots Q (F0 m tgt ls rest)) (k2 : b ≤ a → W p l e R s m args below meth c H locs cells slots Q (F0 m (pc + 3) ls rest)) : W p l e R s m args below meth c H locs cells slots Q (F0 m pc ls (.int (zI b) :: .int (zI a) :: rest)) :=
  lv_icmp_lt hx hb hdg ht (fun h => k1 ((zI_lt ha hb2).mp h)) (fun h => k2 (Int.not_lt.mp (fun q => h ((zI_lt ha hb2).mpr q))))
theorem z_icmp_gt (hx : p.tables.exec = Jvm.exec) (hb : c.code = cc) {a b : Int} {off : Int} {tgt : Nat} (hdg : decode cc pc = .ok (.if_icmp .gt off, 3)) (ht : (pc : Int) + off = (tgt : Int)) (ha : zs a) (hb2 : zs b)
    (k1 : b < a → W p l e R s m args below meth c H locs cells slots Q (F0 m tgt ls rest)) (k2 : a ≤ b → W p l e R s m args below meth c H locs cells slots Q (F0 m (pc + 3) ls rest)) : W p l e R s m args below meth c H locs cells slots Q (F0 m pc ls (.int (zI b) :: .int (zI a) :: rest)) :=
  lv_icmp_gt hx hb hdg ht (fun h => k1 ((zI_lt hb2 ha).mp h)) (fun h => k2 (Int.not_lt.mp (fun q => h ((zI_lt hb2 ha).mpr q))))
theorem z_icmp_eq (hx : p.tables.exec = Jvm.exec) (hb : c.code = cc) {a b : Int} {off : Int} {tgt : Nat} (hdg : decode cc pc = .ok (.if_icmp .eq off, 3)) (ht : (pc : Int) + off = (tgt : Int)) (ha : zs a) (hb2 : zs b)
    (k1 : a = b → W p l e R s m args below meth c H locs cells slots Q (F0 m tgt ls rest)) (k2 : a ≠ b → W p l e R s m args below meth c H locs cells slots Q (F0 m (pc + 3) ls rest)) : W p l e R s m args below meth c H locs cells slots Q (F0 m pc ls (.int (zI b) :: .int (zI a) :: rest)) :=
  lv_icmp_eq hx hb hdg ht (fun h => k1 ((zI_eq ha hb2).mp h)) (fun h => k2 (fun q => h ((zI_eq ha hb2).mpr q)))
theorem z_icmp_ne (hx : p.tables.exec = Jvm.exec) (hb : c.code = cc) {a b : Int} {off : Int} {tgt : Nat} (hdg : decode cc pc = .ok (.if_icmp .ne off, 3)) (ht : (pc : Int) + off = (tgt : Int)) (ha : zs a) (hb2 : zs b)
    (k1 : a ≠ b → W p l e R s m args below meth c H locs cells slots Q (F0 m tgt ls rest)) (k2 : a = b → W p l e R s m args below meth c H locs cells slots Q (F0 m (pc + 3) ls rest)) : W p l e R s m args below meth c H locs cells slots Q (F0 m pc ls (.int (zI b) :: .int (zI a) :: rest)) :=
  lv_icmp_ne hx hb hdg ht (fun h => k1 (fun q => h ((zI_eq ha hb2).mpr q))) (fun h => k2 ((zI_eq ha hb2).mp h))
theorem zs_0 : zs 0 := ⟨by decide, by decide⟩
theorem z_if_eq (hx : p.tables.exec = Jvm.exec) (hb : c.code = cc) {a : Int} {off : Int} {tgt : Nat} (hdg : decode cc pc = .ok (.ifCond .eq off, 3)) (ht : (pc : Int) + off = (tgt : Int)) (ha : zs a)
    (k1 : a = 0 → W p l e R s m args below meth c H locs cells slots Q (F0 m tgt ls rest)) (k2 : a ≠ 0 → W p l e R s m args below meth c H locs cells slots Q (F0 m (pc + 3) ls rest)) : W p l e R s m args below meth c H locs cells slots Q (F0 m pc ls (.int (zI a) :: rest)) :=
  lv_if_eq hx hb hdg ht (fun h => k1 ((zI_eq ha zs_0).mp h)) (fun h => k2 (fun q => h ((zI_eq ha zs_0).mpr q)))
theorem z_if_ne (hx : p.tables.exec = Jvm.exec) (hb : c.code = cc) {a : Int} {off : Int} {tgt : Nat} (hdg : decode cc pc = .ok (.ifCond .ne off, 3)) (ht : (pc : Int) + off = (tgt : Int)) (ha : zs a)
    (k1 : a ≠ 0 → W p l e R s m args below meth c H locs cells slots Q (F0 m tgt ls rest)) (k2 : a = 0 → W p l e R s m args below meth c H locs cells slots Q (F0 m (pc + 3) ls rest)) : W p l e R s m args below meth c H locs cells slots Q (F0 m pc ls (.int (zI a) :: rest)) :=
  lv_if_ne hx hb hdg ht (fun h => k1 (fun q => h ((zI_eq ha zs_0).mpr q))) (fun h => k2 ((zI_eq ha zs_0).mp h))
theorem z_if_lt (hx : p.tables.exec = Jvm.exec) (hb : c.code = cc) {a : Int} {off : Int} {tgt : Nat} (hdg : decode cc pc = .ok (.ifCond .lt off, 3)) (ht : (pc : Int) + off = (tgt : Int)) (ha : zs a)
    (k1 : a < 0 → W p l e R s m args below meth c H locs cells slots Q (F0 m tgt ls rest)) (k2 : 0 ≤ a → W p l e R s m args below meth c H locs cells slots Q (F0 m (pc + 3) ls rest)) : W p l e R s m args below meth c H locs cells slots Q (F0 m pc ls (.int (zI a) :: rest)) :=
  lv_if_lt hx hb hdg ht (fun h => k1 ((zI_lt ha zs_0).mp h)) (fun h => k2 (Int.not_lt.mp (fun q => h ((zI_lt ha zs_0).mpr q))))
theorem z_if_ge (hx : p.tables.exec = Jvm.exec) (hb : c.code = cc) {a : Int} {off : Int} {tgt : Nat} (hdg : decode cc pc = .ok (.ifCond .ge off, 3)) (ht : (pc : Int) + off = (tgt : Int)) (ha : zs a)
    (k1 : 0 ≤ a → W p l e R s m args below meth c H locs cells slots Q (F0 m tgt ls rest)) (k2 : a < 0 → W p l e R s m args below meth c H locs cells slots Q (F0 m (pc + 3) ls rest)) : W p l e R s m args below meth c H locs cells slots Q (F0 m pc ls (.int (zI a) :: rest)) :=
  lv_if_ge hx hb hdg ht (fun h => k1 ((zI_le zs_0 ha).mp h)) (fun h => k2 (Int.not_le.mp (fun q => h ((zI_le zs_0 ha).mpr q))))
theorem z_if_gt (hx : p.tables.exec = Jvm.exec) (hb : c.code = cc) {a : Int} {off : Int} {tgt : Nat} (hdg : decode cc pc = .ok (.ifCond .gt off, 3)) (ht : (pc : Int) + off = (tgt : Int)) (ha : zs a)
    (k1 : 0 < a → W p l e R s m args below meth c H locs cells slots Q (F0 m tgt ls rest)) (k2 : a ≤ 0 → W p l e R s m args below meth c H locs cells slots Q (F0 m (pc + 3) ls rest)) : W p l e R s m args below meth c H locs cells slots Q (F0 m pc ls (.int (zI a) :: rest)) :=
  lv_if_gt hx hb hdg ht (fun h => k1 ((zI_lt zs_0 ha).mp h)) (fun h => k2 (Int.not_lt.mp (fun q => h ((zI_lt zs_0 ha).mpr q))))
theorem z_if_le (hx : p.tables.exec = Jvm.exec) (hb : c.code = cc) {a : Int} {off : Int} {tgt : Nat} (hdg : decode cc pc = .ok (.ifCond .le off, 3)) (ht : (pc : Int) + off = (tgt : Int)) (ha : zs a)
    (k1 : a ≤ 0 → W p l e R s m args below meth c H locs cells slots Q (F0 m tgt ls rest)) (k2 : 0 < a → W p l e R s m args below meth c H locs cells slots Q (F0 m (pc + 3) ls rest)) : W p l e R s m args below meth c H locs cells slots Q (F0 m pc ls (.int (zI a) :: rest)) :=
  lv_if_le hx hb hdg ht (fun h => k1 ((zI_le ha zs_0).mp h)) (fun h => k2 (Int.not_le.mp (fun q => h ((zI_le ha zs_0).mpr q))))
theorem t_1ne0 : ¬ (1 : Int32) = 0 := by decide
theorem t_if_eq (hx : p.tables.exec = Jvm.exec) (hb : c.code = cc) {P : Prop} {r : Int32} {off : Int} {tgt : Nat} (hdg : decode cc pc = .ok (.ifCond .eq off, 3)) (ht : (pc : Int) + off = (tgt : Int)) (hr : tc_bit P r)
    (k1 : ¬ P → W p l e R s m args below meth c H locs cells slots Q (F0 m tgt ls rest)) (k2 : P → W p l e R s m args below meth c H locs cells slots Q (F0 m (pc + 3) ls rest)) : W p l e R s m args below meth c H locs cells slots Q (F0 m pc ls (.int r :: rest)) :=
  lv_if_eq hx hb hdg ht (fun h => k1 (fun q => by rcases hr with ⟨_, u⟩ | ⟨u, _⟩; exact t_1ne0 (u.symm.trans h); exact u q)) (fun h => k2 (by rcases hr with ⟨u, _⟩ | ⟨_, u⟩; exact u; exact absurd u h))
theorem t_if_ne (hx : p.tables.exec = Jvm.exec) (hb : c.code = cc) {P : Prop} {r : Int32} {off : Int} {tgt : Nat} (hdg : decode cc pc = .ok (.ifCond .ne off, 3)) (ht : (pc : Int) + off = (tgt : Int)) (hr : tc_bit P r)
    (k1 : P → W p l e R s m args below meth c H locs cells slots Q (F0 m tgt ls rest)) (k2 : ¬ P → W p l e R s m args below meth c H locs cells slots Q (F0 m (pc + 3) ls rest)) : W p l e R s m args below meth c H locs cells slots Q (F0 m pc ls (.int r :: rest)) :=
  lv_if_ne hx hb hdg ht (fun h => k1 (by rcases hr with ⟨u, _⟩ | ⟨_, u⟩; exact u; exact absurd u h)) (fun h => k2 (fun q => by rcases hr with ⟨_, u⟩ | ⟨u, _⟩; exact t_1ne0 (u.symm.trans h); exact u q))
theorem z_bald {D : va_G} {cl : List vw_C} {tys : List (ClassId × FieldType)} {ws : va_W} {a : Nat} (hx : p.tables.exec = Jvm.exec) (hb : c.code = cc) (hK : va_K D cl tys s) (hP : va_P D cl ws H) (q0 t0 : Nat) {cA : ClassId} {n : Nat} {f : Nat → Int32} (ha : ws[q0]? = some (a, .inl (cA, n, .inl f))) (ht : tys[t0]? = some (cA, .byte)) {k : Nat} (hk : k < n) (hn : n < 2 ^ 31) {v : Int32} (hv : f k = v) (hdg : decode cc pc = .ok (.baload, 1))
    (kk : W p l e R s m args below meth c H locs cells slots Q (F0 m (pc + 1) ls (.int v :: rest))) : W p l e R s m args below meth c H locs cells slots Q (F0 m pc ls (.int (zI (k : Int)) :: .ref a :: rest)) :=
  va_bald hx hb hK hP q0 t0 ha ht (zI_in hk hn) hdg (z_seti (by rw [zI_cl (by omega)]; exact hv) kk)
theorem z_zald {D : va_G} {cl : List vw_C} {tys : List (ClassId × FieldType)} {ws : va_W} {a : Nat} (hx : p.tables.exec = Jvm.exec) (hb : c.code = cc) (hK : va_K D cl tys s) (hP : va_P D cl ws H) (q0 t0 : Nat) {cA : ClassId} {n : Nat} {f : Nat → Int32} (ha : ws[q0]? = some (a, .inl (cA, n, .inl f))) (ht : tys[t0]? = some (cA, .boolean)) {k : Nat} (hk : k < n) (hn : n < 2 ^ 31) {v : Int32} (hv : f k = v) (hdg : decode cc pc = .ok (.baload, 1))
    (kk : W p l e R s m args below meth c H locs cells slots Q (F0 m (pc + 1) ls (.int v :: rest))) : W p l e R s m args below meth c H locs cells slots Q (F0 m pc ls (.int (zI (k : Int)) :: .ref a :: rest)) :=
  va_zald hx hb hK hP q0 t0 ha ht (zI_in hk hn) hdg (z_seti (by rw [zI_cl (by omega)]; exact hv) kk)
theorem z_iald {D : va_G} {cl : List vw_C} {tys : List (ClassId × FieldType)} {ws : va_W} {a : Nat} (hx : p.tables.exec = Jvm.exec) (hb : c.code = cc) (hK : va_K D cl tys s) (hP : va_P D cl ws H) (q0 t0 : Nat) {cA : ClassId} {n : Nat} {f : Nat → Int32} (ha : ws[q0]? = some (a, .inl (cA, n, .inl f))) (ht : tys[t0]? = some (cA, .int)) {k : Nat} (hk : k < n) (hn : n < 2 ^ 31) {v : Int32} (hv : f k = v) (hdg : decode cc pc = .ok (.iaload, 1))
    (kk : W p l e R s m args below meth c H locs cells slots Q (F0 m (pc + 1) ls (.int v :: rest))) : W p l e R s m args below meth c H locs cells slots Q (F0 m pc ls (.int (zI (k : Int)) :: .ref a :: rest)) :=
  va_iald hx hb hK hP q0 t0 ha ht (zI_in hk hn) hdg (z_seti (by rw [zI_cl (by omega)]; exact hv) kk)
end TCB
abbrev tc_Cl : List vw_C := [(RX0, TX0, 6), (RX1, TX1, 6)]
/-- the cells of a TreeCodes: the object, its four arrays -/
abbrev tc_xW (A : Nat → Nat) (w : Int64) (n : Int32) (d : Nat → ClassId) (F : Nat → Nat → Int32) : va_W := [(A 0, .inr (0, [.long w, .int n, .ref (A 1), .ref (A 2), .ref (A 3), .ref (A 4)])), (A 1, .inl (d 0, 8, .inl (F 0))), (A 2, .inl (d 1, 8, .inl (F 1))), (A 3, .inl (d 2, 8, .inl (F 2))), (A 4, .inl (d 3, 8, .inl (F 3)))]
abbrev tc_xT (d : Nat → ClassId) : List (ClassId × FieldType) := [(d 0, .byte), (d 1, .byte), (d 2, .byte), (d 3, .byte)]
/-- the cells of a TreeCodesModel: the object, its three arrays -/
abbrev tc_mW (A : Nat → Nat) (d : Nat → ClassId) (sz : Int32) (bs : Nat → Int32) (ct la : Int32) (up dp : Nat → Int32) : va_W := [(A 0, .inr (1, [.int sz, .ref (A 1), .int ct, .int la, .ref (A 2), .ref (A 3)])), (A 1, .inl (d 0, 64, .inl bs)), (A 2, .inl (d 1, 64, .inl up)), (A 3, .inl (d 2, 64, .inl dp))]
abbrev tc_mT (d : Nat → ClassId) : List (ClassId × FieldType) := [(d 0, .boolean), (d 1, .int), (d 2, .int)]
-- ===== contracts that only read =====
def ro_B (D : va_G) (ws : va_W) (tys : List (ClassId × FieldType)) (U : State) : Prop := va_P D tc_Cl ws U.heap ∧ va_K D tc_Cl tys U
theorem ro_blind {av : List Value} {D : va_G} {ws : va_W} {tys : List (ClassId × FieldType)} : FrameBlind (va_Pc av (ro_B D ws tys)) := fun a U g mk q => ⟨q.1, q.2.1, va_K.moved (u := U) (U := U.calling g mk a) (Vm.Alike.refl U.vm) q.2.2⟩
def ro_C (p : Program) (s : State) (m : MethodId) (meth : Method) (c : Code) (own : String) (code : ByteArray) (nL : Nat) (ret : Option FieldType) (args : List Value) (D : va_G) (ws : va_W) (tys : List (ClassId × FieldType)) : Prop :=
  p.tables.exec = Jvm.exec ∧ c.code = code ∧ meth.sig.returnType = ret ∧ c.maxLocals = nL ∧ s.vm.findClass own = some m.cls ∧ (∀ w ∈ lw_all, w.before args.toArray s = true) ∧ meth.locks = false ∧ va_P D tc_Cl ws s.heap ∧ va_K D tc_Cl tys s
abbrev ro_Met (l : Launch) (y : MethodName) (code : ByteArray) (nL : Nat) (ret : Option FieldType) (rm : Room) (D : va_G) (ws : va_W) (tys : List (ClassId × FieldType)) (args : List Value) (post : Int32 → Prop) : Prop := Met l y (ws_ y code nL ret) rm (va_Pc args (ro_B D ws tys)) (vp_Si post) 0 0 (fun _ => False)
abbrev ro_G (p : Program) (l : Launch) (e : Env) (s : State) (m : MethodId) (below : List Frame) (meth : Method) (c : Code) (y : MethodName) (code : ByteArray) (nL : Nat) (ret : Option FieldType) (rm : Room) (args : List Value) (post : Int32 → Prop) (g : JFrame) : Prop := W p l e (headSpec (ws_ y code nL ret) rm).room s m args.toArray below meth c s.heap [] 0 0 (MQ below (vp_Si post) args.toArray s 0 0 (fun _ => False)) g
theorem ro_of {l : Launch} {y : MethodName} {code : ByteArray} {nL : Nat} {ret : Option FieldType} {rm : Room} {D : va_G} {ws : va_W} {tys : List (ClassId × FieldType)} {args : List Value} {post : Int32 → Prop} (hy : plainName y.cls = true) (hlen : (lg_sl args).length ≤ nL)
    (body : ∀ (p : Program) (e : Env) (s : State) (m : MethodId) (below : List Frame) (meth : Method) (c : Code) (ls : Array Slot), ro_C p s m meth c y.cls code nL ret args D ws tys → lv_has ls nL (lv_args 0 args) → ro_G p l e s m below meth c y code nL ret rm args post (F0 m 0 ls [])) : ro_Met l y code nL ret rm D ws tys args post := by
  refine Met.ofW (cc := code) (maxL := nL) (ret := ret) hy rfl ?_
  intro p e s m args' below meth c s₁ B hml hv
  obtain ⟨rfl, hP, hK⟩ := hv
  have hts := atoms_spec (ws := ws_ y code nL ret) B.pre
  have hts : ∀ w ∈ lw_all, w.before _ s = true := fun w h => hts w (List.mem_cons_of_mem _ h)
  have hown : s.vm.findClass y.cls = some m.cls := findClass_of_methodNamed B.named
  have hl := lv_entry args (n := nL) hlen
  rw [lg_entry_eq]
  exact body p e s m below meth c _ ⟨B.exec, B.bytes, B.returns, hml, hown, hts, B.notSynchronized, hP, hK⟩ hl
section TCR
variable {p : Program} {l : Launch} {e : Env} {R : Room} {s : State} {m : MethodId} {args : Array Value} {below : List Frame} {meth : Method} {c : Code} {H : Heap} {locs : List Loc} {cells slots : Nat} {Q : State → Prop} {cc : ByteArray} {pc : Nat} {ls : Array Slot} {rest : List Value}
theorem ro_ret {post : Int32 → Prop} {v : Int32} (hx : p.tables.exec = Jvm.exec) (hb : c.code = cc) (hr : meth.sig.returnType = some .int) (hlocks : meth.locks = false) (hpost : post v) (hdg : decode cc pc = .ok (.ireturn, 1)) : W p l e R s m args below meth c s.heap [] cells slots (MQ below (vp_Si post) args s cells slots (fun _ => False)) (F0 m pc ls [.int v]) :=
  W.iret (v := v) hx hb hr (fun t ht _ => ⟨v, rfl, hpost, ht⟩) (fun q h => by cases h) hdg hlocks
theorem ro_zret {post : Int32 → Prop} {v : Int32} (hx : p.tables.exec = Jvm.exec) (hb : c.code = cc) (hr : meth.sig.returnType = some .boolean) (hlocks : meth.locks = false) (hn : narrow .boolean (.int v) = .int v) (hpost : post v) (hdg : decode cc pc = .ok (.ireturn, 1)) : W p l e R s m args below meth c s.heap [] cells slots (MQ below (vp_Si post) args s cells slots (fun _ => False)) (F0 m pc ls [.int v]) :=
  W.zret (v := v) hx hb hr hn (fun t ht _ => ⟨v, rfl, hpost, ht⟩) (fun q h => by cases h) hdg hlocks
variable {nL maxL index n ci : Nat} {own C : String} {y : MethodName} {bytes : ByteArray} {ret : Option FieldType} {rm : Room} {D : va_G} {ws : va_W} {tys : List (ClassId × FieldType)} {As : List Value} {a : Nat} {fs : List Value} {T : u_T} {N : Nat} {lv : List (Nat × Value)} {st0 : List Value}
/-- a call of a method that only reads: the heap stays -/
theorem ro_call {post : Int32 → Prop} (hx : p.tables.exec = Jvm.exec) (hb : c.code = cc) (hml : c.maxLocals = nL) (hown : s.vm.findClass own = some m.cls) (hts : ∀ w ∈ lw_all, w.before args s = true)
    (hM : ro_Met l y bytes maxL ret rm D ws tys (.ref a :: As) post) (hG : GoodIn lw_all (wsV own index C y (ws_ y bytes maxL ret)))
    (hd : y.cls = C ∧ y.cls ≠ "java/lang/invoke/MethodHandle" ∧ y.cls ≠ "java/lang/invoke/VarHandle" ∧ (parseMethodDescriptor y.desc).map (fun d => d.parameters.length) = some n) (hR : rm.frames + 1 ≤ R.frames ∧ 8 + (maxL + 11) + rm.locals ≤ R.locals) (hrm : rm.cells = 0 ∧ rm.slots = 0)
    (hK : va_K D tc_Cl tys s) (hP : va_P D tc_Cl ws H) (hcl : tc_Cl[ci]? = some (C, T, N)) (h0 : ws[0]? = some (a, .inr (ci, fs))) (hn : As.length = n) (hls : lv_has ls nL lv) (hst : st0 = As.reverse ++ .ref a :: rest) (hcat : (rest.map fun v => v.category).sum ≤ 8)
    (hdg : decode cc pc = .ok (.invokevirtual index, 3)) (hf : cells ≤ R.cells ∧ slots ≤ R.slots)
    (kk : ∀ r : Int32, post r → W p l e R s m args below meth c H locs cells slots Q (F0 m (pc + 3) ls (.int r :: rest))) : W p l e R s m args below meth c H locs cells slots Q (F0 m pc ls st0) :=
  vp_callSi (va_Run.run (va_runV (As := As) (rest := rest) ⟨hx, hb, hml, hown, hts⟩ hM (cwV n hts hG rfl hrm.1 hrm.2 hd hR) ⟨ro_blind, va_recv hK hP hcl h0, fun U hU hW => ⟨rfl, by rw [hU]; exact hP, va_K.moved hW.alike hK⟩⟩ rfl hn hls.1 hst (lv_room hcat) hdg hf)) kk
theorem ro_calle {v : Int32} (hx : p.tables.exec = Jvm.exec) (hb : c.code = cc) (hml : c.maxLocals = nL) (hown : s.vm.findClass own = some m.cls) (hts : ∀ w ∈ lw_all, w.before args s = true)
    (hM : ro_Met l y bytes maxL ret rm D ws tys (.ref a :: As) (fun r => r = v)) (hG : GoodIn lw_all (wsV own index C y (ws_ y bytes maxL ret)))
    (hd : y.cls = C ∧ y.cls ≠ "java/lang/invoke/MethodHandle" ∧ y.cls ≠ "java/lang/invoke/VarHandle" ∧ (parseMethodDescriptor y.desc).map (fun d => d.parameters.length) = some n) (hR : rm.frames + 1 ≤ R.frames ∧ 8 + (maxL + 11) + rm.locals ≤ R.locals) (hrm : rm.cells = 0 ∧ rm.slots = 0)
    (hK : va_K D tc_Cl tys s) (hP : va_P D tc_Cl ws H) (hcl : tc_Cl[ci]? = some (C, T, N)) (h0 : ws[0]? = some (a, .inr (ci, fs))) (hn : As.length = n) (hls : lv_has ls nL lv) (hst : st0 = As.reverse ++ .ref a :: rest) (hcat : (rest.map fun v => v.category).sum ≤ 8)
    (hdg : decode cc pc = .ok (.invokevirtual index, 3)) (hf : cells ≤ R.cells ∧ slots ≤ R.slots)
    (kk : W p l e R s m args below meth c H locs cells slots Q (F0 m (pc + 3) ls (.int v :: rest))) : W p l e R s m args below meth c H locs cells slots Q (F0 m pc ls st0) :=
  ro_call hx hb hml hown hts hM hG hd hR hrm hK hP hcl h0 hn hls hst hcat hdg hf (fun r hr => by have hr : r = v := hr; subst hr; exact kk)
end TCR
-- ===== contracts that write their own cells =====
def mu_B (D : va_G) (ws : va_W) (tys : List (ClassId × FieldType)) (sz : Nat) (U : State) : Prop := U.heap.size = sz ∧ va_P D tc_Cl ws U.heap ∧ va_K D tc_Cl tys U ∧ va_D (fun _ => True) ws
def mu_N {S : Type} (D : va_G) (tys : List (ClassId × FieldType)) (Ws : S → va_W) (A : Nat → Prop) (u : S) (t : State) : Prop := va_P D tc_Cl (Ws u) t.heap ∧ va_K D tc_Cl tys t ∧ va_D A (Ws u)
theorem mu_blind {av : List Value} {D : va_G} {ws : va_W} {tys : List (ClassId × FieldType)} {sz : Nat} : FrameBlind (va_Pc av (mu_B D ws tys sz)) := fun a U g mk q => ⟨q.1, q.2.1, q.2.2.1, va_K.moved (u := U) (U := U.calling g mk a) (Vm.Alike.refl U.vm) q.2.2.2.1, q.2.2.2.2⟩
abbrev mu_Q (S : Type) (D : va_G) (tys : List (ClassId × FieldType)) (Ws : S → va_W) (A : Nat → Prop) (post : Int32 → S → Prop) : Array Value → State → Outcome → State → Prop := va_Qi post (mu_N D tys Ws A) A
abbrev mu_V (S : Type) (D : va_G) (tys : List (ClassId × FieldType)) (Ws : S → va_W) (A : Nat → Prop) (post : S → Prop) : Array Value → State → Outcome → State → Prop := va_Qv post (mu_N D tys Ws A) A
def mu_C (p : Program) (s : State) (m : MethodId) (meth : Method) (c : Code) (own : String) (code : ByteArray) (nL : Nat) (ret : Option FieldType) (args : List Value) (D : va_G) (ws : va_W) (tys : List (ClassId × FieldType)) (A : Nat → Prop) : Prop :=
  p.tables.exec = Jvm.exec ∧ c.code = code ∧ meth.sig.returnType = ret ∧ c.maxLocals = nL ∧ s.vm.findClass own = some m.cls ∧ (∀ w ∈ lw_all, w.before args.toArray s = true) ∧ meth.locks = false ∧ va_P D tc_Cl ws s.heap ∧ va_K D tc_Cl tys s ∧ va_D A ws ∧ (∀ q : Nat, s.heap.size ≤ q → A q) ∧ va_S A s.heap s.heap []
abbrev mu_Met (l : Launch) (y : MethodName) (code : ByteArray) (nL : Nat) (ret : Option FieldType) (rm : Room) (D : va_G) (ws : va_W) (tys : List (ClassId × FieldType)) (sz : Nat) (args : List Value) (Qc : Array Value → State → Outcome → State → Prop) : Prop := Met l y (ws_ y code nL ret) rm (va_Pc args (mu_B D ws tys sz)) Qc 0 0 (va_A ws sz)
abbrev mu_G (p : Program) (l : Launch) (e : Env) (s : State) (m : MethodId) (below : List Frame) (meth : Method) (c : Code) (y : MethodName) (code : ByteArray) (nL : Nat) (ret : Option FieldType) (rm : Room) (args : List Value) (Qc : Array Value → State → Outcome → State → Prop) (A : Nat → Prop) (H : Heap) (locs : List Loc) (g : JFrame) : Prop := W p l e (headSpec (ws_ y code nL ret) rm).room s m args.toArray below meth c H locs 0 0 (MQ below Qc args.toArray s 0 0 A) g
theorem mu_of {l : Launch} {y : MethodName} {code : ByteArray} {nL : Nat} {ret : Option FieldType} {rm : Room} {D : va_G} {ws : va_W} {tys : List (ClassId × FieldType)} {sz : Nat} {args : List Value} {Qc : Array Value → State → Outcome → State → Prop} (hy : plainName y.cls = true) (hlen : (lg_sl args).length ≤ nL)
    (body : ∀ (p : Program) (e : Env) (s : State) (m : MethodId) (below : List Frame) (meth : Method) (c : Code) (ls : Array Slot), mu_C p s m meth c y.cls code nL ret args D ws tys (va_A ws sz) → lv_has ls nL (lv_args 0 args) → mu_G p l e s m below meth c y code nL ret rm args Qc (va_A ws sz) s.heap [] (F0 m 0 ls [])) : mu_Met l y code nL ret rm D ws tys sz args Qc := by
  refine Met.ofW (cc := code) (maxL := nL) (ret := ret) hy rfl ?_
  intro p e s m args' below meth c s₁ B hml hv
  obtain ⟨rfl, hsz, hP, hK, hD⟩ := hv
  have hts := atoms_spec (ws := ws_ y code nL ret) B.pre
  have hts : ∀ w ∈ lw_all, w.before _ s = true := fun w h => hts w (List.mem_cons_of_mem _ h)
  have hown : s.vm.findClass y.cls = some m.cls := findClass_of_methodNamed B.named
  have hl := lv_entry args (n := nL) hlen
  rw [lg_entry_eq]
  exact body p e s m below meth c _ ⟨B.exec, B.bytes, B.returns, hml, hown, hts, B.notSynchronized, hP, hK, hD.self, fun q h => Or.inr (by rw [← hsz]; exact h), va_S.rf⟩ hl
section TCM
variable {p : Program} {l : Launch} {e : Env} {R : Room} {s : State} {m : MethodId} {args : Array Value} {below : List Frame} {meth : Method} {c : Code} {H H0 : Heap} {locs : List Loc} {cells slots : Nat} {Q : State → Prop} {cc : ByteArray} {pc : Nat} {ls : Array Slot} {rest : List Value}
variable {S : Type} {D : va_G} {ws wc wr : va_W} {tys : List (ClassId × FieldType)} {Ws : S → va_W} {A : Nat → Prop}
theorem mu_ret {post : Int32 → S → Prop} {v : Int32} {u : S} (hx : p.tables.exec = Jvm.exec) (hb : c.code = cc) (hr : meth.sig.returnType = some .int) (hlocks : meth.locks = false) (hP : va_P D tc_Cl (Ws u) H) (hK : va_K D tc_Cl tys s) (hD : va_D A (Ws u)) (hS : va_S A s.heap H locs) (hpost : post v u) (hdg : decode cc pc = .ok (.ireturn, 1)) : W p l e R s m args below meth c H locs cells slots (MQ below (mu_Q S D tys Ws A post) args s cells slots A) (F0 m pc ls [.int v]) :=
  W.iret (v := v) hx hb hr (fun t ht hW => ⟨⟨v, u, rfl, hpost, by rw [ht]; exact hP, va_K.moved hW.alike hK, hD⟩, hS.F ht⟩) hS.2.2 hdg hlocks
theorem mu_zret {post : Int32 → S → Prop} {v : Int32} {u : S} (hx : p.tables.exec = Jvm.exec) (hb : c.code = cc) (hr : meth.sig.returnType = some .boolean) (hlocks : meth.locks = false) (hn : narrow .boolean (.int v) = .int v) (hP : va_P D tc_Cl (Ws u) H) (hK : va_K D tc_Cl tys s) (hD : va_D A (Ws u)) (hS : va_S A s.heap H locs) (hpost : post v u) (hdg : decode cc pc = .ok (.ireturn, 1)) : W p l e R s m args below meth c H locs cells slots (MQ below (mu_Q S D tys Ws A post) args s cells slots A) (F0 m pc ls [.int v]) :=
  W.zret (v := v) hx hb hr hn (fun t ht hW => ⟨⟨v, u, rfl, hpost, by rw [ht]; exact hP, va_K.moved hW.alike hK, hD⟩, hS.F ht⟩) hS.2.2 hdg hlocks
theorem mu_vret {post : S → Prop} {u : S} (hx : p.tables.exec = Jvm.exec) (hb : c.code = cc) (hr : meth.sig.returnType = none) (hlocks : meth.locks = false) (hP : va_P D tc_Cl (Ws u) H) (hK : va_K D tc_Cl tys s) (hD : va_D A (Ws u)) (hS : va_S A s.heap H locs) (hpost : post u) (hdg : decode cc pc = .ok (.return_, 1)) : W p l e R s m args below meth c H locs cells slots (MQ below (mu_V S D tys Ws A post) args s cells slots A) (F0 m pc ls []) :=
  W.vret hx hb hr (fun t ht hW => ⟨⟨u, rfl, hpost, by rw [ht]; exact hP, va_K.moved hW.alike hK, hD⟩, hS.F ht⟩) hS.2.2 hdg hlocks
variable {nL maxL index n ci : Nat} {own C : String} {y : MethodName} {bytes : ByteArray} {ret : Option FieldType} {rm : Room} {As : List Value} {a : Nat} {fs : List Value} {T : u_T} {N : Nat} {lv : List (Nat × Value)} {st0 : List Value}
/-- a call of a method that writes its own cells (wc, at the places isC of ours); the others (wr) stay -/
theorem mu_call {post : Int32 → S → Prop} (hx : p.tables.exec = Jvm.exec) (hb : c.code = cc) (hml : c.maxLocals = nL) (hown : s.vm.findClass own = some m.cls) (hts : ∀ w ∈ lw_all, w.before args s = true)
    (hM : mu_Met l y bytes maxL ret rm D wc tys H.size (.ref a :: As) (mu_Q S D tys Ws (va_A wc H.size) post)) (hG : GoodIn lw_all (wsV own index C y (ws_ y bytes maxL ret)))
    (hd : y.cls = C ∧ y.cls ≠ "java/lang/invoke/MethodHandle" ∧ y.cls ≠ "java/lang/invoke/VarHandle" ∧ (parseMethodDescriptor y.desc).map (fun d => d.parameters.length) = some n) (hR : rm.frames + 1 ≤ R.frames ∧ 8 + (maxL + 11) + rm.locals ≤ R.locals) (hrm : rm.cells = 0 ∧ rm.slots = 0)
    (hK : va_K D tc_Cl tys s) (hP : va_P D tc_Cl ws H) (hD : va_D A ws) (hS : va_S A H0 H locs) (hA : ∀ q : Nat, H0.size ≤ q → A q) (isC isR : List Nat) (hC : isC.map (fun i => ws[i]?) = wc.map some) (hC2 : isC.filterMap (fun i => ws[i]?) = wc) (hRr : isR.map (fun i => ws[i]?) = wr.map some) (hnC : va_nd isC = true) (hnR : va_nd isR = true) (hdis : ∀ i ∈ isR, i ∉ isC)
    (hcl : tc_Cl[ci]? = some (C, T, N)) (h0 : wc[0]? = some (a, .inr (ci, fs))) (hn : As.length = n) (hls : lv_has ls nL lv) (hst : st0 = As.reverse ++ .ref a :: rest) (hcat : (rest.map fun v => v.category).sum ≤ 8)
    (hdg : decode cc pc = .ok (.invokevirtual index, 3)) (hf : cells ≤ R.cells ∧ slots ≤ R.slots)
    (kk : ∀ (r : Int32) (u : S) (H1 : Heap) (locs1 : List Loc), post r u → va_P D tc_Cl (wr ++ Ws u) H1 → va_D A (wr ++ Ws u) → va_S A H0 H1 locs1 → W p l e R s m args below meth c H1 locs1 cells slots Q (F0 m (pc + 3) ls (.int r :: rest))) : W p l e R s m args below meth c H locs cells slots Q (F0 m pc ls st0) := by
  have hPc := hP.sub (ws' := wc) isC hC2
  have hDc := hD.sub (ws' := wc) isC hnC hC
  have hFc := va_free (wc := wc) hD hS hA isC hC
  refine va_calli (va_runV (As := As) (rest := rest) ⟨hx, hb, hml, hown, hts⟩ hM (cwV n hts hG rfl hrm.1 hrm.2 hd hR) ⟨mu_blind, va_recv hK hPc hcl h0, fun U hU hW => ⟨rfl, by rw [hU], by rw [hU]; exact hPc, va_K.moved hW.alike hK, hDc.weaken (fun _ _ _ _ => trivial)⟩⟩ rfl hn hls.1 hst (lv_room hcat) hdg hf) hS (fun q _ h => hFc q h) hFc (fun r u t H1 locs1 ht hvm hw hB hz1 hk1 hS1 => ?_)
  obtain ⟨hP1, hK1, hD1⟩ := hB
  rw [ht] at hP1
  obtain ⟨hP2, hD2⟩ := va_join (wr := wr) (w1 := Ws u) hP hD isC isR hC hRr hnR hdis hk1 hFc hP1 hD1
  exact kk r u H1 locs1 hw hP2 hD2 hS1
theorem mu_callv {post : S → Prop} (hx : p.tables.exec = Jvm.exec) (hb : c.code = cc) (hml : c.maxLocals = nL) (hown : s.vm.findClass own = some m.cls) (hts : ∀ w ∈ lw_all, w.before args s = true)
    (hM : mu_Met l y bytes maxL ret rm D wc tys H.size (.ref a :: As) (mu_V S D tys Ws (va_A wc H.size) post)) (hG : GoodIn lw_all (wsV own index C y (ws_ y bytes maxL ret)))
    (hd : y.cls = C ∧ y.cls ≠ "java/lang/invoke/MethodHandle" ∧ y.cls ≠ "java/lang/invoke/VarHandle" ∧ (parseMethodDescriptor y.desc).map (fun d => d.parameters.length) = some n) (hR : rm.frames + 1 ≤ R.frames ∧ 8 + (maxL + 11) + rm.locals ≤ R.locals) (hrm : rm.cells = 0 ∧ rm.slots = 0)
    (hK : va_K D tc_Cl tys s) (hP : va_P D tc_Cl ws H) (hD : va_D A ws) (hS : va_S A H0 H locs) (hA : ∀ q : Nat, H0.size ≤ q → A q) (isC isR : List Nat) (hC : isC.map (fun i => ws[i]?) = wc.map some) (hC2 : isC.filterMap (fun i => ws[i]?) = wc) (hRr : isR.map (fun i => ws[i]?) = wr.map some) (hnC : va_nd isC = true) (hnR : va_nd isR = true) (hdis : ∀ i ∈ isR, i ∉ isC)
    (hcl : tc_Cl[ci]? = some (C, T, N)) (h0 : wc[0]? = some (a, .inr (ci, fs))) (hn : As.length = n) (hls : lv_has ls nL lv) (hst : st0 = As.reverse ++ .ref a :: rest) (hcat : (rest.map fun v => v.category).sum ≤ 8)
    (hdg : decode cc pc = .ok (.invokevirtual index, 3)) (hf : cells ≤ R.cells ∧ slots ≤ R.slots)
    (kk : ∀ (u : S) (H1 : Heap) (locs1 : List Loc), post u → va_P D tc_Cl (wr ++ Ws u) H1 → va_D A (wr ++ Ws u) → va_S A H0 H1 locs1 → W p l e R s m args below meth c H1 locs1 cells slots Q (F0 m (pc + 3) ls rest)) : W p l e R s m args below meth c H locs cells slots Q (F0 m pc ls st0) := by
  have hPc := hP.sub (ws' := wc) isC hC2
  have hDc := hD.sub (ws' := wc) isC hnC hC
  have hFc := va_free (wc := wc) hD hS hA isC hC
  refine va_callv (va_runV (As := As) (rest := rest) ⟨hx, hb, hml, hown, hts⟩ hM (cwV n hts hG rfl hrm.1 hrm.2 hd hR) ⟨mu_blind, va_recv hK hPc hcl h0, fun U hU hW => ⟨rfl, by rw [hU], by rw [hU]; exact hPc, va_K.moved hW.alike hK, hDc.weaken (fun _ _ _ _ => trivial)⟩⟩ rfl hn hls.1 hst (lv_room hcat) hdg hf) hS (fun q _ h => hFc q h) hFc (fun u t H1 locs1 ht hvm hw hB hz1 hk1 hS1 => ?_)
  obtain ⟨hP1, hK1, hD1⟩ := hB
  rw [ht] at hP1
  obtain ⟨hP2, hD2⟩ := va_join (wr := wr) (w1 := Ws u) hP hD isC isR hC hRr hnR hdis hk1 hFc hP1 hD1
  exact kk u H1 locs1 hw hP2 hD2 hS1
end TCM
end
section
/-! TreeCodes: what its cells hold for a row b of n brackets -/
def tc_blk (b : Nat → Bool) (F : Nat → Nat → Int32) (k m : Nat) : Prop :=
  F 0 k = zI ((tc_cnt b m : Int) - (tc_cnt b (8 * k) : Int)) ∧ F 1 k = zI (tc_lev b m - tc_lev b (8 * k)) ∧
  (∃ u, F 2 k = zI u ∧ (∀ i, 8 * k < i → i ≤ m → u ≤ tc_lev b i - tc_lev b (8 * k)) ∧ ∃ i, 8 * k < i ∧ i ≤ m ∧ u = tc_lev b i - tc_lev b (8 * k)) ∧
  (∃ u, F 3 k = zI u ∧ (∀ i, 8 * k < i → i ≤ m → tc_lev b i - tc_lev b (8 * k) ≤ u) ∧ ∃ i, 8 * k < i ∧ i ≤ m ∧ u = tc_lev b i - tc_lev b (8 * k))
def tc_xI (n : Nat) (b : Nat → Bool) (w : Int64) (F : Nat → Nat → Int32) : Prop :=
  n ≤ 64 ∧ tc_ok n b ∧ (∀ i, i < n → w.toBitVec.getLsbD i = b i) ∧ ∀ k m, 8 * k < m → m ≤ n → m ≤ 8 * k + 8 → (m = n ∨ m = 8 * k + 8) → tc_blk b F k m
theorem tc_bit_1 {P : Prop} (h : P) : tc_bit P (zI 1) := Or.inl ⟨h, by decide⟩
theorem tc_bit_0 {P : Prop} (h : ¬ P) : tc_bit P (zI 0) := Or.inr ⟨h, by decide⟩
theorem ts_nf {x : Bool} (h : ¬ x = false) : x = true := by cases x <;> first | rfl | exact absurd rfl h
theorem ts_nt {x : Bool} (h : ¬ x = true) : x = false := by cases x <;> first | rfl | exact absurd rfl h
theorem ts_bit {w : Int64} {s : UInt64} {j : Nat} (hj : j < 64) (hs : s.toNat = j) : ((w.toUInt64 >>> s).toInt64 &&& 1) = 0 ↔ w.toBitVec.getLsbD j = false := by
  have e : (w.toUInt64 >>> s).toInt64.toBitVec = w.toBitVec >>> j := by
    apply BitVec.eq_of_toNat_eq
    show (w.toUInt64 >>> s).toNat = _
    rw [UInt64.toNat_shiftRight, hs, Nat.mod_eq_of_lt hj, BitVec.toNat_ushiftRight]
    rfl
  rw [← Int64.toBitVec_inj, Int64.toBitVec_and, e]
  show w.toBitVec >>> j &&& 1#64 = 0#64 ↔ _
  constructor
  · intro h
    have t := congrArg (fun x => x.getLsbD 0) h
    simpa using t
  · intro h
    apply BitVec.eq_of_getLsbD_eq
    intro i hi
    cases i with
    | zero => simp [h]
    | succ i => simp
theorem wb_cu : ∀ k, k < 64 → ((nI k).toInt64.toUInt64 &&& Int64.toUInt64 63) = UInt64.ofNat k := by decide +kernel
theorem u_tn {n : Nat} (h : n < 2 ^ 64) : (UInt64.ofNat n).toNat = n := Nat.mod_eq_of_lt h
theorem tc_opens {w : Int64} {i : Nat} (hi : i < 64) : lg_cmp ((w.toUInt64 >>> ((zI (i : Int)).toInt64.toUInt64 &&& Int64.toUInt64 63)).toInt64 &&& 1) 0 = 0 ↔ w.toBitVec.getLsbD i = false := by
  rw [lg_cmp_eq]
  exact ts_bit hi (by rw [← zI_n, wb_cu i hi]; exact u_tn (by omega))
theorem tc_nd_iff {n : Nat} {b : Nat → Bool} (hn : n ≤ 64) {z : Int} (hz : zs z) : tc_nd n b (zI z) ↔ (0 ≤ z ∧ z < (tc_cnt b n : Int)) := by
  constructor
  · rintro ⟨p, h1, h2, h3⟩
    have c1 := tc_cnt_le b p
    have c2 := tc_cnt_lt h2 h1
    have e := (zI_eq hz (b := (tc_cnt b p : Int)) ⟨by omega, by omega⟩).mp h3
    omega
  · rintro ⟨h1, h2⟩
    obtain ⟨p, g1, g2, g3⟩ := tc_place (b := b) (n := n) (v := z.toNat) (by omega)
    exact ⟨p, g1, g2, by rw [g3]; congr 1; omega⟩
theorem tc_nd_ob {n : Nat} {b : Nat → Bool} (hn : n ≤ 64) {z : Int} (hz : zs z) (h : tc_nd n b (zI z)) : ∃ p, p < n ∧ b p = true ∧ z = (tc_cnt b p : Int) := by
  obtain ⟨p, h1, h2, h3⟩ := h
  have c1 := tc_cnt_le b p
  exact ⟨p, h1, h2, (zI_eq hz (b := (tc_cnt b p : Int)) ⟨by omega, by omega⟩).mp h3⟩
/-- the place whose bracket closes a node, from what the search gives -/
theorem tc_end_of {n : Nat} {b : Nat → Bool} {p e : Nat} (hp : p < n) (hb : b p = true) (h1 : p ≤ e) (h2 : e ≤ n) (h3 : ∀ i, p < i → i ≤ e → tc_lev b p < tc_lev b i) (h4 : e < n → tc_lev b (e + 1) ≤ tc_lev b p) : tc_end n b p e := by
  have h5 : p < e := by
    rcases Nat.lt_or_ge p e with q | q
    · exact q
    · have ep : e = p := by omega
      have := h4 (by omega)
      rw [ep, tc_lev_t hb] at this
      omega
  refine ⟨h5, h2, h3, fun q => ?_⟩
  have a := h4 q
  have c := h3 e h5 (Nat.le_refl e)
  rcases tc_lev_1 b e with ⟨u, v⟩ | ⟨u, v⟩ <;> omega
theorem tc_next_of {n : Nat} {b : Nat → Bool} {p e : Nat} {z : Int} (he : tc_end n b p e) (hz : (e + 1 < n ∧ b (e + 1) = true ∧ z = (tc_cnt b (e + 1) : Int)) ∨ (¬ (e + 1 < n ∧ b (e + 1) = true) ∧ z = -1)) : tc_Rnext n b p z := by
  obtain ⟨e1, e2, e3, e4⟩ := he
  have low : ∀ i, p < i → i < e + 1 → ¬ tc_sib b p i := fun i u v h => by
    have := e3 i u (by omega)
    have := h.1
    omega
  rcases hz with ⟨z1, z2, z3⟩ | ⟨z1, z2⟩
  · have e5 := e4 (by omega)
    refine Or.inl ⟨e + 1, by omega, z1, z2, ⟨e5.symm, fun i u v => ?_⟩, fun i u v _ => low i u v, z3⟩
    by_cases q : i = p
    · rw [q]; omega
    · by_cases q2 : i = e + 1
      · rw [q2]; omega
      · have := e3 i (by omega) (by omega); omega
  · refine Or.inr ⟨fun i u v w h => ?_, z2⟩
    rcases Nat.lt_or_ge i (e + 1) with q | q
    · exact low i u q h
    · by_cases q2 : i = e + 1
      · exact z1 (by rw [← q2]; exact ⟨v, w⟩)
      · have e5 := e4 (by omega)
        have bf : b (e + 1) = false := ts_nt (fun t => z1 ⟨by omega, t⟩)
        have e6 := tc_lev_f bf
        have := h.2 (e + 1 + 1) (by omega) (by omega)
        omega
theorem tc_prev_none {b : Nat → Bool} {p : Nat} (h : p = 0 ∨ (0 < p ∧ b (p - 1) = true)) : tc_Rprev b p (-1) := by
  refine Or.inr ⟨fun i u v w => ?_, rfl⟩
  rcases h with h | ⟨h1, h2⟩
  · omega
  · have e := tc_lev_t h2
    rw [show p - 1 + 1 = p by omega] at e
    have a := w.2 (p - 1) (by omega) (by omega)
    have := w.1
    omega
theorem tc_prev_some {b : Nat → Bool} {p q : Nat} (h0 : 0 < p) (hf : b (p - 1) = false) (h : tc_bk b (tc_lev b p) (p - 1) q) : tc_Rprev b p (tc_cnt b q : Int) := by
  obtain ⟨h1, h2, h3, h4⟩ := h
  refine Or.inl ⟨q, by omega, h2, ⟨h3, fun i u v => ?_⟩, fun i u v _ w => ?_, rfl⟩
  · by_cases e : i = q
    · rw [e]; omega
    · by_cases e2 : i = p
      · rw [e2]; omega
      · have := h4 i (by omega) (by omega); omega
  · have := h4 i u (by omega)
    have := w.1
    omega
theorem tc_above_eq {b : Nat → Bool} {p : Nat} (hb : b p = true) : tc_Rabove b (zI (tc_lev b p)) p (tc_cnt b p : Int) := Or.inl ⟨p, hb, tc_anc_refl b p, rfl, rfl⟩
theorem tc_above_none {b : Nat → Bool} {p : Nat} {g : Int} (hg : zs g) (hp : p ≤ 64) (hok : ∀ i, i ≤ p → 0 ≤ tc_lev b i) (h : g < 0 ∨ tc_lev b p < g) : tc_Rabove b (zI g) p (-1) := by
  refine Or.inr ⟨fun q u v w => ?_, rfl⟩
  have l := v.1
  have e := (zI_eq hg (tc_zlev (b := b) (i := q) (by omega))).mp w
  have l2 := tc_anc_lev v
  have l3 := hok q l
  omega
theorem tc_above_bk {b : Nat → Bool} {p q : Nat} {g : Int} (h : tc_bk b g p q) : tc_Rabove b (zI g) p (tc_cnt b q : Int) := by
  obtain ⟨h1, h2, h3, h4⟩ := h
  exact Or.inl ⟨q, h2, ⟨by omega, fun i u v => by rw [h3]; exact h4 i u v⟩, by rw [h3], rfl⟩
/-- first child, and the row of children -/
theorem tc_kid_first {b : Nat → Bool} {p : Nat} (hb : b p = true) (h : b (p + 1) = true) : tc_kid b p (p + 1) ∧ tc_num (tc_kid b p) (p + 1) = 0 := by
  refine ⟨⟨h, by omega, hb, (tc_lev_t hb).symm, fun i u v => ?_⟩, ?_⟩
  · have e : i = p + 1 := by omega
    rw [e, tc_lev_t hb]; omega
  · have e := tc_num_flat (P := tc_kid b p) (i := 0) (j := p + 1) (by omega) (fun k _ v w => by have := w.2.1; omega)
    rw [e]; rfl
theorem tc_kid_none {n : Nat} {b : Nat → Bool} {p : Nat} (hb : b p = true) (h : ¬ (p + 1 < n ∧ b (p + 1) = true)) : tc_num (tc_kid b p) n = 0 := by
  have e := tc_num_flat (P := tc_kid b p) (i := 0) (j := n) (by omega) (fun k _ v w => ?_)
  · rw [e]; rfl
  · obtain ⟨w1, w2, w3, w4, w5⟩ := w
    by_cases q : k = p + 1
    · exact h (by rw [← q]; exact ⟨v, w1⟩)
    · have bf : b (p + 1) = false := ts_nt (fun t => h ⟨by omega, t⟩)
      have e1 := tc_lev_t hb
      have e2 := tc_lev_f bf
      have := w5 (p + 1 + 1) (by omega) (by omega)
      omega
theorem tc_kid_sib {n : Nat} {b : Nat → Bool} (hok : tc_ok n b) {p q r : Nat} (hqr : q < r) (hr : r ≤ n) (hp : tc_par b p q) : tc_par b p r ↔ tc_sib b q r := by
  constructor
  · intro h
    exact tc_sib_of hok hqr hr (Or.inr ⟨p, hp, rfl⟩) (Or.inr ⟨p, h, rfl⟩)
  · intro h
    obtain ⟨a1, a2, a3, a4⟩ := hp
    refine ⟨by omega, a2, by have := h.1; omega, fun i u v => ?_⟩
    rcases Nat.lt_or_ge q i with w | w
    · have := h.2 i (by omega) v; omega
    · exact a4 i u w
/-- the next child -/
theorem tc_kid_next {n : Nat} {b : Nat → Bool} (hok : tc_ok n b) {p q : Nat} (hq : q < n) (hk : tc_kid b p q) {z : Int} (h : tc_Rnext n b q z) : (∃ r, r < n ∧ tc_kid b p r ∧ tc_num (tc_kid b p) r = tc_num (tc_kid b p) q + 1 ∧ z = (tc_cnt b r : Int)) ∨ (tc_num (tc_kid b p) n = tc_num (tc_kid b p) q + 1 ∧ z = -1) := by
  rcases h with ⟨r, h1, h2, h3, h4, h5, h6⟩ | ⟨h1, h2⟩
  · refine Or.inl ⟨r, h2, ⟨h3, (tc_kid_sib hok h1 (by omega) hk.2).mpr h4⟩, ?_, h6⟩
    rw [← tc_num_t hk]
    exact tc_num_flat (by omega) (fun k u v w => h5 k (by omega) v w.1 ((tc_kid_sib hok (by omega) (by omega) hk.2).mp w.2))
  · refine Or.inr ⟨?_, h2⟩
    rw [← tc_num_t hk]
    exact tc_num_flat (by omega) (fun k u v w => h1 k (by omega) v w.1 ((tc_kid_sib hok (by omega) (by omega) hk.2).mp w.2))
end
section
abbrev rmX0_opensAt : Room := { frames := 0, cells := 0, slots := 0, locals := 0 }
set_option maxHeartbeats 4000000 in
set_option maxRecDepth 100000 in
theorem kX_opensAt (l : Launch) (D : va_G) (A : Nat → Nat) (d : Nat → ClassId) {w : Int64} {F : Nat → Nat → Int32} {n : Nat} {b : Nat → Bool} (hI : tc_xI n b w F) (i : Nat) (hi : i < n) : ro_Met l yX0_opensAt cX0_opensAt 2 (some .boolean) rmX0_opensAt D (tc_xW A w (zI (n : Int)) d F) (tc_xT d) [.ref (A 0), .int (zI ((i : Int)))] (fun r => tc_bit (b i = true) r) := by
  refine ro_of (by decide) (Nat.le_of_ble_eq_true rfl) ?_
  intro p e s m below meth c ls C hl
  obtain ⟨hx, hb, hr, hml, hown, hts, hlocks, hP, hK⟩ := C
  have hown : s.vm.findClass RX0 = some m.cls := hown
  have hl : lv_has ls 2 [(0, .ref (A 0)), (1, .int (zI ((i : Int))))] := hl
  obtain ⟨hn, hok, hw, hB⟩ := id hI
  refine lv_aload_n hx hb dX0_opensAt_0 rfl (lv_at hl 0 rfl) ?_
  refine va_get (D := D) (ci := 0) (v := .long (w)) (C := RX0) (T := TX0) (N := 6) hx hb hts in_X0 hown hK hP 0 rfl rfl 0 (by decide) (hts _ q26) (fun _ h9 => h9) rfl dX0_opensAt_1 ?_
  refine lv_iload_n hx hb dX0_opensAt_4 rfl (lv_at hl 1 rfl) ?_
  refine lv_lushr (v := (w.toUInt64 >>> ((zI (i : Int)).toInt64.toUInt64 &&& Int64.toUInt64 63)).toInt64) hx hb dX0_opensAt_5 rfl ?_
  refine lv_lconst (v := 1) hx hb dX0_opensAt_6 (by decide) ?_
  refine lv_land hx hb dX0_opensAt_7 ?_
  refine lv_lconst (v := 0) hx hb dX0_opensAt_8 (by decide) ?_
  refine W.lcmp hx hb dX0_opensAt_9 ?_
  refine lv_if_eq (tgt := 17) hx hb dX0_opensAt_10 (by decide) (fun hc => ?_) (fun hc => ?_)
  · have hf : b i = false := by rw [← hw i hi]; exact (tc_opens (by omega)).mp hc
    refine lv_iconst (v := zI 0) hx hb dX0_opensAt_17 rfl ?_
    exact ro_zret hx hb hr hlocks (by decide) (tc_bit_0 (by rw [hf]; decide)) dX0_opensAt_18
  · have hf : b i = true := by rw [← hw i hi]; exact ts_nf (fun q => hc ((tc_opens (by omega)).mpr q))
    refine lv_iconst (v := zI 1) hx hb dX0_opensAt_13 rfl ?_
    refine lv_goto (tgt := 18) hx hb dX0_opensAt_14 (by decide) ?_
    exact ro_zret hx hb hr hlocks (by decide) (tc_bit_1 hf) dX0_opensAt_18
abbrev rmX0_opensBefore : Room := { frames := 1, cells := 0, slots := 0, locals := 21 }
set_option maxHeartbeats 4000000 in
set_option maxRecDepth 100000 in
theorem kX_opensBefore (l : Launch) (D : va_G) (A : Nat → Nat) (d : Nat → ClassId) {w : Int64} {F : Nat → Nat → Int32} {n : Nat} {b : Nat → Bool} (hI : tc_xI n b w F) (P : Nat) (hP0 : P ≤ n) : ro_Met l yX0_opensBefore cX0_opensBefore 5 (some .int) rmX0_opensBefore D (tc_xW A w (zI (n : Int)) d F) (tc_xT d) [.ref (A 0), .int (zI ((P : Int)))] (fun r => r = zI (tc_cnt b P : Int)) := by
  refine ro_of (by decide) (Nat.le_of_ble_eq_true rfl) ?_
  intro p e s m below meth c ls C hl
  obtain ⟨hx, hb, hr, hml, hown, hts, hlocks, hP, hK⟩ := C
  have hown : s.vm.findClass RX0 = some m.cls := hown
  have hl : lv_has ls 5 [(0, .ref (A 0)), (1, .int (zI ((P : Int))))] := hl
  obtain ⟨hn, hok, hw, hB⟩ := id hI
  have loop2 : ∀ (f : Nat) (i : Nat), P + 1 ≤ i + f → 8 * (P / 8) ≤ i → i ≤ P → ∀ (ls : Array Slot), lv_has ls 5 [(0, .ref (A 0)), (1, .int (zI ((P : Int)))), (2, .int (zI (((P / 8 : Nat) : Int)))), (3, .int (zI ((tc_cnt b i : Int)))), (4, .int (zI ((i : Int))))] → ro_G p l e s m below meth c yX0_opensBefore cX0_opensBefore 5 (some .int) rmX0_opensBefore [.ref (A 0), .int (zI ((P : Int)))] (fun r => r = zI (tc_cnt b P : Int)) (F0 m 38 ls []) := by
    intro f
    induction f with
    | zero => intro i h1 h2 h3; exact absurd h1 (by omega)
    | succ f ih =>
      intro i h1 h2 h3 ls hl
      refine lv_iload hx hb dX0_opensBefore_38 (lv_at hl 4 rfl) ?_
      refine lv_iload_n hx hb dX0_opensBefore_40 rfl (lv_at hl 1 rfl) ?_
      refine z_icmp_ge (tgt := 67) hx hb dX0_opensBefore_41 (by decide) (⟨by omega, by omega⟩) (⟨by omega, by omega⟩) (fun hc => ?_) (fun hc => ?_)
      · have ei : i = P := by omega
        subst ei
        refine lv_iload_n hx hb dX0_opensBefore_67 rfl (lv_at hl 3 rfl) ?_
        exact ro_ret hx hb hr hlocks (rfl) dX0_opensBefore_68
      · refine lv_iload_n hx hb dX0_opensBefore_44 rfl (lv_at hl 3 rfl) ?_
        refine lv_aload_n hx hb dX0_opensBefore_45 rfl (lv_at hl 0 rfl) ?_
        refine lv_iload hx hb dX0_opensBefore_46 (lv_at hl 4 rfl) ?_
        refine ro_call (n := 1) hx hb hml hown hts (kX_opensAt l D A d hI (i) (by omega)) (lw_V q54 q56 qs1 q16 q57) (by decide +kernel) ⟨Nat.le_of_ble_eq_true rfl, Nat.le_of_ble_eq_true rfl⟩ ⟨rfl, rfl⟩ hK hP rfl rfl rfl hl rfl (Nat.le_of_ble_eq_true rfl) dX0_opensBefore_48 ⟨Nat.le_of_ble_eq_true rfl, Nat.le_of_ble_eq_true rfl⟩ (fun r48 hO => ?_)
        suffices kM : ro_G p l e s m below meth c yX0_opensBefore cX0_opensBefore 5 (some .int) rmX0_opensBefore [.ref (A 0), .int (zI ((P : Int)))] (fun r => r = zI (tc_cnt b P : Int)) (F0 m 59 ls [.int (zI ((tc_o (b (i)) : Int))), .int (zI ((tc_cnt b i : Int)))]) by
          refine t_if_eq (tgt := 58) hx hb dX0_opensBefore_51 (by decide) hO (fun hc => ?_) (fun hc => ?_)
          · refine lv_iconst (v := zI 0) hx hb dX0_opensBefore_58 rfl ?_
            exact z_set (by rw [ts_nt hc]; rfl) kM
          · refine lv_iconst (v := zI 1) hx hb dX0_opensBefore_54 rfl ?_
            refine lv_goto (tgt := 59) hx hb dX0_opensBefore_55 (by decide) ?_
            exact z_set (by rw [hc]; rfl) kM
        refine z_iadd hx hb dX0_opensBefore_59 ?_
        refine z_set (y := (tc_cnt b (i + 1) : Int)) (by rw [tc_cnt_s]; omega) ?_
        refine lv_istore_n (lv' := [(3, .int (zI ((tc_cnt b (i + 1) : Int)))), (0, .ref (A 0)), (1, .int (zI ((P : Int)))), (2, .int (zI (((P / 8 : Nat) : Int)))), (4, .int (zI ((i : Int))))]) hx hb dX0_opensBefore_60 rfl hl (by decide) rfl (fun ls hl => ?_)
        refine lv_iinc (v := zI (((i + 1 : Nat) : Int))) (lv' := [(4, .int (zI (((i + 1 : Nat) : Int)))), (3, .int (zI ((tc_cnt b (i + 1) : Int)))), (0, .ref (A 0)), (1, .int (zI ((P : Int)))), (2, .int (zI (((P / 8 : Nat) : Int))))]) hx hb dX0_opensBefore_61 hl (k := 4) rfl (zI_inc (by omega)) (by decide) rfl (fun ls hl => ?_)
        refine lv_goto (tgt := 38) hx hb dX0_opensBefore_64 (by decide) ?_
        exact ih (i + 1) (by omega) (by omega) (by omega) ls (lv_sub hl [2, 3, 4, 1, 0] rfl)
  have loop1 : ∀ (f : Nat) (k : Nat), P / 8 + 1 ≤ k + f → k ≤ P / 8 → ∀ (ls : Array Slot), lv_has ls 5 [(0, .ref (A 0)), (1, .int (zI ((P : Int)))), (2, .int (zI (((P / 8 : Nat) : Int)))), (3, .int (zI ((tc_cnt b (8 * k) : Int)))), (4, .int (zI ((k : Int))))] → ro_G p l e s m below meth c yX0_opensBefore cX0_opensBefore 5 (some .int) rmX0_opensBefore [.ref (A 0), .int (zI ((P : Int)))] (fun r => r = zI (tc_cnt b P : Int)) (F0 m 10 ls []) := by
    intro f
    induction f with
    | zero => intro k h1 h2; exact absurd h1 (by omega)
    | succ f ih =>
      intro k h1 h2 ls hl
      refine lv_iload hx hb dX0_opensBefore_10 (lv_at hl 4 rfl) ?_
      refine lv_iload_n hx hb dX0_opensBefore_12 rfl (lv_at hl 2 rfl) ?_
      refine z_icmp_ge (tgt := 32) hx hb dX0_opensBefore_13 (by decide) (⟨by omega, by omega⟩) (⟨by omega, by omega⟩) (fun hc => ?_) (fun hc => ?_)
      · have ek : k = P / 8 := by omega
        subst ek
        refine lv_iload_n hx hb dX0_opensBefore_32 rfl (lv_at hl 2 rfl) ?_
        refine lv_bipush (v := zI 8) hx hb dX0_opensBefore_33 (by decide) ?_
        refine z_imul hx hb dX0_opensBefore_35 ?_
        refine z_set (y := ((8 * (P / 8) : Nat) : Int)) (by omega) ?_
        refine lv_istore (lv' := [(4, .int (zI (((8 * (P / 8) : Nat) : Int)))), (0, .ref (A 0)), (1, .int (zI ((P : Int)))), (2, .int (zI (((P / 8 : Nat) : Int)))), (3, .int (zI ((tc_cnt b (8 * (P / 8)) : Int))))]) hx hb dX0_opensBefore_36 hl (by decide) rfl (fun ls hl => ?_)
        exact loop2 (P + 1) (8 * (P / 8)) (by omega) (by omega) (by omega) ls (lv_sub hl [1, 2, 3, 4, 0] rfl)
      · have hbk := hB k (8 * k + 8) (by omega) (by omega) (by omega) (Or.inr rfl)
        refine lv_iload_n hx hb dX0_opensBefore_16 rfl (lv_at hl 3 rfl) ?_
        refine lv_aload_n hx hb dX0_opensBefore_17 rfl (lv_at hl 0 rfl) ?_
        refine va_get (D := D) (ci := 0) (v := .ref (A 1)) (C := RX0) (T := TX0) (N := 6) hx hb hts in_X0 hown hK hP 0 rfl rfl 2 (by decide) (hts _ q28) (fun _ h9 => h9) rfl dX0_opensBefore_18 ?_
        refine lv_iload hx hb dX0_opensBefore_21 (lv_at hl 4 rfl) ?_
        refine z_bald hx hb hK hP 1 0 rfl rfl (k := k) (by omega) (by decide) (v := (zI ((tc_cnt b (8 * k + 8) : Int) - (tc_cnt b (8 * k) : Int)))) (hbk.1) dX0_opensBefore_23 ?_
        refine z_iadd hx hb dX0_opensBefore_24 ?_
        refine z_set (y := (tc_cnt b (8 * (k + 1)) : Int)) (by rw [show 8 * (k + 1) = 8 * k + 8 from rfl]; omega) ?_
        refine lv_istore_n (lv' := [(3, .int (zI ((tc_cnt b (8 * (k + 1)) : Int)))), (0, .ref (A 0)), (1, .int (zI ((P : Int)))), (2, .int (zI (((P / 8 : Nat) : Int)))), (4, .int (zI ((k : Int))))]) hx hb dX0_opensBefore_25 rfl hl (by decide) rfl (fun ls hl => ?_)
        refine lv_iinc (v := zI (((k + 1 : Nat) : Int))) (lv' := [(4, .int (zI (((k + 1 : Nat) : Int)))), (3, .int (zI ((tc_cnt b (8 * (k + 1)) : Int)))), (0, .ref (A 0)), (1, .int (zI ((P : Int)))), (2, .int (zI (((P / 8 : Nat) : Int))))]) hx hb dX0_opensBefore_26 hl (k := 4) rfl (zI_inc (by omega)) (by decide) rfl (fun ls hl => ?_)
        refine lv_goto (tgt := 10) hx hb dX0_opensBefore_29 (by decide) ?_
        exact ih (k + 1) (by omega) (by omega) ls (lv_sub hl [2, 3, 4, 1, 0] rfl)
  refine lv_iload_n hx hb dX0_opensBefore_0 rfl (lv_at hl 1 rfl) ?_
  refine lv_bipush (v := zI 8) hx hb dX0_opensBefore_1 (by decide) ?_
  refine z_idiv (a := P) hx hb (by omega) dX0_opensBefore_3 ?_
  refine lv_istore_n (lv' := [(2, .int (zI (((P / 8 : Nat) : Int)))), (0, .ref (A 0)), (1, .int (zI ((P : Int))))]) hx hb dX0_opensBefore_4 rfl hl (by decide) rfl (fun ls hl => ?_)
  refine lv_iconst (v := zI 0) hx hb dX0_opensBefore_5 rfl ?_
  refine lv_istore_n (lv' := [(3, .int (zI (0))), (2, .int (zI (((P / 8 : Nat) : Int)))), (0, .ref (A 0)), (1, .int (zI ((P : Int))))]) hx hb dX0_opensBefore_6 rfl hl (by decide) rfl (fun ls hl => ?_)
  refine lv_iconst (v := zI 0) hx hb dX0_opensBefore_7 rfl ?_
  refine lv_istore (lv' := [(4, .int (zI (0))), (3, .int (zI (0))), (2, .int (zI (((P / 8 : Nat) : Int)))), (0, .ref (A 0)), (1, .int (zI ((P : Int))))]) hx hb dX0_opensBefore_8 hl (by decide) rfl (fun ls hl => ?_)
  exact loop1 (P / 8 + 1) 0 (by omega) (by omega) ls (lv_sub hl [3, 4, 2, 1, 0] rfl)
abbrev rmX0_nodes : Room := { frames := 2, cells := 0, slots := 0, locals := 45 }
set_option maxHeartbeats 4000000 in
set_option maxRecDepth 100000 in
theorem kX_nodes (l : Launch) (D : va_G) (A : Nat → Nat) (d : Nat → ClassId) {w : Int64} {F : Nat → Nat → Int32} {n : Nat} {b : Nat → Bool} (hI : tc_xI n b w F)  : ro_Met l yX0_nodes cX0_nodes 1 (some .int) rmX0_nodes D (tc_xW A w (zI (n : Int)) d F) (tc_xT d) [.ref (A 0)] (fun r => r = zI (tc_cnt b n : Int)) := by
  refine ro_of (by decide) (Nat.le_of_ble_eq_true rfl) ?_
  intro p e s m below meth c ls C hl
  obtain ⟨hx, hb, hr, hml, hown, hts, hlocks, hP, hK⟩ := C
  have hown : s.vm.findClass RX0 = some m.cls := hown
  have hl : lv_has ls 1 [(0, .ref (A 0))] := hl
  obtain ⟨hn, hok, hw, hB⟩ := id hI
  refine lv_aload_n hx hb dX0_nodes_0 rfl (lv_at hl 0 rfl) ?_
  refine lv_aload_n hx hb dX0_nodes_1 rfl (lv_at hl 0 rfl) ?_
  refine va_get (D := D) (ci := 0) (v := .int (zI ((n : Int)))) (C := RX0) (T := TX0) (N := 6) hx hb hts in_X0 hown hK hP 0 rfl rfl 1 (by decide) (hts _ q27) (fun _ h9 => h9) rfl dX0_nodes_2 ?_
  refine ro_calle (n := 1) hx hb hml hown hts (kX_opensBefore l D A d hI n (Nat.le_refl n)) (lw_V q62 q64 qs2 q16 q65) (by decide +kernel) ⟨Nat.le_of_ble_eq_true rfl, Nat.le_of_ble_eq_true rfl⟩ ⟨rfl, rfl⟩ hK hP rfl rfl rfl hl rfl (Nat.le_of_ble_eq_true rfl) dX0_nodes_5 ⟨Nat.le_of_ble_eq_true rfl, Nat.le_of_ble_eq_true rfl⟩ ?_
  exact ro_ret hx hb hr hlocks (rfl) dX0_nodes_8
abbrev rmX0_levelBefore : Room := { frames := 2, cells := 0, slots := 0, locals := 45 }
set_option maxHeartbeats 4000000 in
set_option maxRecDepth 100000 in
theorem kX_levelBefore (l : Launch) (D : va_G) (A : Nat → Nat) (d : Nat → ClassId) {w : Int64} {F : Nat → Nat → Int32} {n : Nat} {b : Nat → Bool} (hI : tc_xI n b w F) (P : Nat) (hP0 : P ≤ n) : ro_Met l yX0_levelBefore cX0_levelBefore 3 (some .int) rmX0_levelBefore D (tc_xW A w (zI (n : Int)) d F) (tc_xT d) [.ref (A 0), .int (zI ((P : Int)))] (fun r => r = zI (tc_lev b P)) := by
  refine ro_of (by decide) (Nat.le_of_ble_eq_true rfl) ?_
  intro p e s m below meth c ls C hl
  obtain ⟨hx, hb, hr, hml, hown, hts, hlocks, hP, hK⟩ := C
  have hown : s.vm.findClass RX0 = some m.cls := hown
  have hl : lv_has ls 3 [(0, .ref (A 0)), (1, .int (zI ((P : Int))))] := hl
  obtain ⟨hn, hok, hw, hB⟩ := id hI
  refine lv_aload_n hx hb dX0_levelBefore_0 rfl (lv_at hl 0 rfl) ?_
  refine lv_iload_n hx hb dX0_levelBefore_1 rfl (lv_at hl 1 rfl) ?_
  refine ro_calle (n := 1) hx hb hml hown hts (kX_opensBefore l D A d hI P hP0) (lw_V q62 q64 qs2 q16 q65) (by decide +kernel) ⟨Nat.le_of_ble_eq_true rfl, Nat.le_of_ble_eq_true rfl⟩ ⟨rfl, rfl⟩ hK hP rfl rfl rfl hl rfl (Nat.le_of_ble_eq_true rfl) dX0_levelBefore_2 ⟨Nat.le_of_ble_eq_true rfl, Nat.le_of_ble_eq_true rfl⟩ ?_
  refine lv_istore_n (lv' := [(2, .int (zI ((tc_cnt b P : Int)))), (0, .ref (A 0)), (1, .int (zI ((P : Int))))]) hx hb dX0_levelBefore_5 rfl hl (by decide) rfl (fun ls hl => ?_)
  refine lv_iconst (v := zI 2) hx hb dX0_levelBefore_6 rfl ?_
  refine lv_iload_n hx hb dX0_levelBefore_7 rfl (lv_at hl 0 rfl) ?_
  refine z_imul hx hb dX0_levelBefore_8 ?_
  refine lv_iload_n hx hb dX0_levelBefore_9 rfl (lv_at hl 2 rfl) ?_
  refine z_isub hx hb dX0_levelBefore_10 ?_
  refine z_set (y := tc_lev b P) ((tc_lev_c b P).symm) ?_
  exact ro_ret hx hb hr hlocks (rfl) dX0_levelBefore_11
abbrev rmX0_openNodes : Room := { frames := 3, cells := 0, slots := 0, locals := 67 }
set_option maxHeartbeats 4000000 in
set_option maxRecDepth 100000 in
theorem kX_openNodes (l : Launch) (D : va_G) (A : Nat → Nat) (d : Nat → ClassId) {w : Int64} {F : Nat → Nat → Int32} {n : Nat} {b : Nat → Bool} (hI : tc_xI n b w F)  : ro_Met l yX0_openNodes cX0_openNodes 1 (some .int) rmX0_openNodes D (tc_xW A w (zI (n : Int)) d F) (tc_xT d) [.ref (A 0)] (fun r => r = zI (tc_lev b n)) := by
  refine ro_of (by decide) (Nat.le_of_ble_eq_true rfl) ?_
  intro p e s m below meth c ls C hl
  obtain ⟨hx, hb, hr, hml, hown, hts, hlocks, hP, hK⟩ := C
  have hown : s.vm.findClass RX0 = some m.cls := hown
  have hl : lv_has ls 1 [(0, .ref (A 0))] := hl
  obtain ⟨hn, hok, hw, hB⟩ := id hI
  refine lv_aload_n hx hb dX0_openNodes_0 rfl (lv_at hl 0 rfl) ?_
  refine lv_aload_n hx hb dX0_openNodes_1 rfl (lv_at hl 0 rfl) ?_
  refine va_get (D := D) (ci := 0) (v := .int (zI ((n : Int)))) (C := RX0) (T := TX0) (N := 6) hx hb hts in_X0 hown hK hP 0 rfl rfl 1 (by decide) (hts _ q27) (fun _ h9 => h9) rfl dX0_openNodes_2 ?_
  refine ro_calle (n := 1) hx hb hml hown hts (kX_levelBefore l D A d hI n (Nat.le_refl n)) (lw_V q74 q76 qs3 q16 q77) (by decide +kernel) ⟨Nat.le_of_ble_eq_true rfl, Nat.le_of_ble_eq_true rfl⟩ ⟨rfl, rfl⟩ hK hP rfl rfl rfl hl rfl (Nat.le_of_ble_eq_true rfl) dX0_openNodes_5 ⟨Nat.le_of_ble_eq_true rfl, Nat.le_of_ble_eq_true rfl⟩ ?_
  exact ro_ret hx hb hr hlocks (rfl) dX0_openNodes_8
abbrev rmX0_isNode : Room := { frames := 3, cells := 0, slots := 0, locals := 65 }
set_option maxHeartbeats 4000000 in
set_option maxRecDepth 100000 in
theorem kX_isNode (l : Launch) (D : va_G) (A : Nat → Nat) (d : Nat → ClassId) {w : Int64} {F : Nat → Nat → Int32} {n : Nat} {b : Nat → Bool} (hI : tc_xI n b w F) (z : Int) (hz : zs z) : ro_Met l yX0_isNode cX0_isNode 2 (some .boolean) rmX0_isNode D (tc_xW A w (zI (n : Int)) d F) (tc_xT d) [.ref (A 0), .int (zI (z))] (fun r => tc_bit (tc_nd n b (zI z)) r) := by
  refine ro_of (by decide) (Nat.le_of_ble_eq_true rfl) ?_
  intro p e s m below meth c ls C hl
  obtain ⟨hx, hb, hr, hml, hown, hts, hlocks, hP, hK⟩ := C
  have hown : s.vm.findClass RX0 = some m.cls := hown
  have hl : lv_has ls 2 [(0, .ref (A 0)), (1, .int (zI (z)))] := hl
  obtain ⟨hn, hok, hw, hB⟩ := id hI
  have cl := tc_cnt_le b n
  refine lv_iload_n hx hb dX0_isNode_0 rfl (lv_at hl 1 rfl) ?_
  refine z_if_lt (tgt := 16) hx hb dX0_isNode_1 (by decide) (hz) (fun hc => ?_) (fun hc => ?_)
  · refine lv_iconst (v := zI 0) hx hb dX0_isNode_16 rfl ?_
    exact ro_zret hx hb hr hlocks (by decide) (tc_bit_0 (fun q => by have := (tc_nd_iff hn hz).mp q; omega)) dX0_isNode_17
  · refine lv_iload_n hx hb dX0_isNode_4 rfl (lv_at hl 1 rfl) ?_
    refine lv_aload_n hx hb dX0_isNode_5 rfl (lv_at hl 0 rfl) ?_
    refine ro_calle (n := 0) hx hb hml hown hts (kX_nodes l D A d hI) (lw_V q58 q59 q60 q16 q61) (by decide +kernel) ⟨Nat.le_of_ble_eq_true rfl, Nat.le_of_ble_eq_true rfl⟩ ⟨rfl, rfl⟩ hK hP rfl rfl rfl hl rfl (Nat.le_of_ble_eq_true rfl) dX0_isNode_6 ⟨Nat.le_of_ble_eq_true rfl, Nat.le_of_ble_eq_true rfl⟩ ?_
    refine z_icmp_ge (tgt := 16) hx hb dX0_isNode_9 (by decide) (hz) (⟨by omega, by omega⟩) (fun hc2 => ?_) (fun hc2 => ?_)
    · refine lv_iconst (v := zI 0) hx hb dX0_isNode_16 rfl ?_
      exact ro_zret hx hb hr hlocks (by decide) (tc_bit_0 (fun q => by have := (tc_nd_iff hn hz).mp q; omega)) dX0_isNode_17
    · refine lv_iconst (v := zI 1) hx hb dX0_isNode_12 rfl ?_
      refine lv_goto (tgt := 17) hx hb dX0_isNode_13 (by decide) ?_
      exact ro_zret hx hb hr hlocks (by decide) (tc_bit_1 ((tc_nd_iff hn hz).mpr ⟨hc, hc2⟩)) dX0_isNode_17
abbrev rmX0_placeOf : Room := { frames := 1, cells := 0, slots := 0, locals := 21 }
set_option maxHeartbeats 4000000 in
set_option maxRecDepth 100000 in
theorem kX_placeOf (l : Launch) (D : va_G) (A : Nat → Nat) (d : Nat → ClassId) {w : Int64} {F : Nat → Nat → Int32} {n : Nat} {b : Nat → Bool} (hI : tc_xI n b w F) (p0 : Nat) (hp1 : p0 < n) (hp2 : b p0 = true) : ro_Met l yX0_placeOf cX0_placeOf 5 (some .int) rmX0_placeOf D (tc_xW A w (zI (n : Int)) d F) (tc_xT d) [.ref (A 0), .int (zI ((tc_cnt b p0 : Int)))] (fun r => r = zI (p0 : Int)) := by
  refine ro_of (by decide) (Nat.le_of_ble_eq_true rfl) ?_
  intro p e s m below meth c ls C hl
  obtain ⟨hx, hb, hr, hml, hown, hts, hlocks, hP, hK⟩ := C
  have hown : s.vm.findClass RX0 = some m.cls := hown
  have hl : lv_has ls 5 [(0, .ref (A 0)), (1, .int (zI ((tc_cnt b p0 : Int))))] := hl
  obtain ⟨hn, hok, hw, hB⟩ := id hI
  have cl := tc_cnt_le b p0
  have loop2 : ∀ (f : Nat) (i k : Nat), p0 + 1 ≤ i + f → i ≤ p0 → k ≤ 7 → ∀ (ls : Array Slot), lv_has ls 5 [(0, .ref (A 0)), (1, .int (zI ((tc_cnt b p0 : Int)))), (2, .int (zI ((tc_cnt b p0 : Int) - (tc_cnt b i : Int)))), (3, .int (zI ((k : Int)))), (4, .int (zI ((i : Int))))] → ro_G p l e s m below meth c yX0_placeOf cX0_placeOf 5 (some .int) rmX0_placeOf [.ref (A 0), .int (zI ((tc_cnt b p0 : Int)))] (fun r => r = zI (p0 : Int)) (F0 m 41 ls []) := by
    intro f
    induction f with
    | zero => intro i k h1 h2 h3; exact absurd h1 (by omega)
    | succ f ih =>
      intro i k h1 h2 h3 ls hl
      have cl2 := tc_cnt_le b i
      have k61 : i < p0 → ro_G p l e s m below meth c yX0_placeOf cX0_placeOf 5 (some .int) rmX0_placeOf [.ref (A 0), .int (zI ((tc_cnt b p0 : Int)))] (fun r => r = zI (p0 : Int)) (F0 m 61 ls []) := by
        intro hlt
        refine lv_iload_n hx hb dX0_placeOf_61 rfl (lv_at hl 2 rfl) ?_
        refine lv_aload_n hx hb dX0_placeOf_62 rfl (lv_at hl 0 rfl) ?_
        refine lv_iload hx hb dX0_placeOf_63 (lv_at hl 4 rfl) ?_
        refine ro_call (n := 1) hx hb hml hown hts (kX_opensAt l D A d hI (i) (by omega)) (lw_V q54 q56 qs1 q16 q57) (by decide +kernel) ⟨Nat.le_of_ble_eq_true rfl, Nat.le_of_ble_eq_true rfl⟩ ⟨rfl, rfl⟩ hK hP rfl rfl rfl hl rfl (Nat.le_of_ble_eq_true rfl) dX0_placeOf_65 ⟨Nat.le_of_ble_eq_true rfl, Nat.le_of_ble_eq_true rfl⟩ (fun r65 hO => ?_)
        suffices kM : ro_G p l e s m below meth c yX0_placeOf cX0_placeOf 5 (some .int) rmX0_placeOf [.ref (A 0), .int (zI ((tc_cnt b p0 : Int)))] (fun r => r = zI (p0 : Int)) (F0 m 76 ls [.int (zI ((tc_o (b (i)) : Int))), .int (zI ((tc_cnt b p0 : Int) - (tc_cnt b i : Int)))]) by
          refine t_if_eq (tgt := 75) hx hb dX0_placeOf_68 (by decide) hO (fun hc => ?_) (fun hc => ?_)
          · refine lv_iconst (v := zI 0) hx hb dX0_placeOf_75 rfl ?_
            exact z_set (by rw [ts_nt hc]; rfl) kM
          · refine lv_iconst (v := zI 1) hx hb dX0_placeOf_71 rfl ?_
            refine lv_goto (tgt := 76) hx hb dX0_placeOf_72 (by decide) ?_
            exact z_set (by rw [hc]; rfl) kM
        refine z_isub hx hb dX0_placeOf_76 ?_
        refine z_set (y := (tc_cnt b p0 : Int) - (tc_cnt b (i + 1) : Int)) (by rw [tc_cnt_s]; omega) ?_
        refine lv_istore_n (lv' := [(2, .int (zI ((tc_cnt b p0 : Int) - (tc_cnt b (i + 1) : Int)))), (0, .ref (A 0)), (1, .int (zI ((tc_cnt b p0 : Int)))), (3, .int (zI ((k : Int)))), (4, .int (zI ((i : Int))))]) hx hb dX0_placeOf_77 rfl hl (by decide) rfl (fun ls hl => ?_)
        refine lv_iinc (v := zI (((i + 1 : Nat) : Int))) (lv' := [(4, .int (zI (((i + 1 : Nat) : Int)))), (2, .int (zI ((tc_cnt b p0 : Int) - (tc_cnt b (i + 1) : Int)))), (0, .ref (A 0)), (1, .int (zI ((tc_cnt b p0 : Int)))), (3, .int (zI ((k : Int))))]) hx hb dX0_placeOf_78 hl (k := 4) rfl (zI_inc (by omega)) (by decide) rfl (fun ls hl => ?_)
        refine lv_goto (tgt := 41) hx hb dX0_placeOf_81 (by decide) ?_
        exact ih (i + 1) k (by omega) (by omega) (by omega) ls (lv_sub hl [2, 3, 1, 4, 0] rfl)
      refine lv_iload hx hb dX0_placeOf_41 (lv_at hl 4 rfl) ?_
      refine lv_bipush (v := zI 63) hx hb dX0_placeOf_43 (by decide) ?_
      refine z_icmp_ge (tgt := 84) hx hb dX0_placeOf_45 (by decide) (⟨by omega, by omega⟩) (⟨by omega, by omega⟩) (fun hc => ?_) (fun hc => ?_)
      · have ei : i = p0 := by omega
        subst ei
        refine lv_iload hx hb dX0_placeOf_84 (lv_at hl 4 rfl) ?_
        exact ro_ret hx hb hr hlocks (rfl) dX0_placeOf_86
      · refine lv_iload_n hx hb dX0_placeOf_48 rfl (lv_at hl 2 rfl) ?_
        refine z_if_gt (tgt := 61) hx hb dX0_placeOf_49 (by decide) (⟨by omega, by omega⟩) (fun hc2 => ?_) (fun hc2 => ?_)
        · exact k61 (tc_lt_of_cnt (b := b) (by omega))
        · refine lv_aload_n hx hb dX0_placeOf_52 rfl (lv_at hl 0 rfl) ?_
          refine lv_iload hx hb dX0_placeOf_53 (lv_at hl 4 rfl) ?_
          refine ro_call (n := 1) hx hb hml hown hts (kX_opensAt l D A d hI i (by omega)) (lw_V q54 q56 qs1 q16 q57) (by decide +kernel) ⟨Nat.le_of_ble_eq_true rfl, Nat.le_of_ble_eq_true rfl⟩ ⟨rfl, rfl⟩ hK hP rfl rfl rfl hl rfl (Nat.le_of_ble_eq_true rfl) dX0_placeOf_55 ⟨Nat.le_of_ble_eq_true rfl, Nat.le_of_ble_eq_true rfl⟩ (fun r55 hO => ?_)
          refine t_if_ne (tgt := 84) hx hb dX0_placeOf_58 (by decide) hO (fun hc3 => ?_) (fun hc3 => ?_)
          · have ei : i = p0 := by
              rcases Nat.lt_or_ge i p0 with q | q
              · have := tc_cnt_lt hc3 q; omega
              · omega
            subst ei
            refine lv_iload hx hb dX0_placeOf_84 (lv_at hl 4 rfl) ?_
            exact ro_ret hx hb hr hlocks (rfl) dX0_placeOf_86
          · exact k61 (by rcases Nat.lt_or_ge i p0 with q | q; exact q; exact absurd (by rw [show i = p0 by omega]; exact hp2) hc3)
  have loop1 : ∀ (f : Nat) (k : Nat), 9 ≤ k + f → 8 * k ≤ p0 → k ≤ 7 → ∀ (ls : Array Slot), lv_has ls 5 [(0, .ref (A 0)), (1, .int (zI ((tc_cnt b p0 : Int)))), (2, .int (zI ((tc_cnt b p0 : Int) - (tc_cnt b (8 * k) : Int)))), (3, .int (zI ((k : Int))))] → ro_G p l e s m below meth c yX0_placeOf cX0_placeOf 5 (some .int) rmX0_placeOf [.ref (A 0), .int (zI ((tc_cnt b p0 : Int)))] (fun r => r = zI (p0 : Int)) (F0 m 4 ls []) := by
    intro f
    induction f with
    | zero => intro k h1 h2 h3; exact absurd h1 (by omega)
    | succ f ih =>
      intro k h1 h2 h3 ls hl
      have cl2 := tc_cnt_le b (8 * k)
      have k35 : ro_G p l e s m below meth c yX0_placeOf cX0_placeOf 5 (some .int) rmX0_placeOf [.ref (A 0), .int (zI ((tc_cnt b p0 : Int)))] (fun r => r = zI (p0 : Int)) (F0 m 35 ls []) := by
        refine lv_iload_n hx hb dX0_placeOf_35 rfl (lv_at hl 3 rfl) ?_
        refine lv_bipush (v := zI 8) hx hb dX0_placeOf_36 (by decide) ?_
        refine z_imul hx hb dX0_placeOf_38 ?_
        refine z_set (y := ((8 * k : Nat) : Int)) (by omega) ?_
        refine lv_istore (lv' := [(4, .int (zI (((8 * k : Nat) : Int)))), (0, .ref (A 0)), (1, .int (zI ((tc_cnt b p0 : Int)))), (2, .int (zI ((tc_cnt b p0 : Int) - (tc_cnt b (8 * k) : Int)))), (3, .int (zI ((k : Int))))]) hx hb dX0_placeOf_39 hl (by decide) rfl (fun ls hl => ?_)
        exact loop2 (p0 + 1) (8 * k) k (by omega) (by omega) (by omega) ls (lv_sub hl [1, 2, 3, 4, 0] rfl)
      refine lv_iload_n hx hb dX0_placeOf_4 rfl (lv_at hl 3 rfl) ?_
      refine lv_bipush (v := zI 7) hx hb dX0_placeOf_5 (by decide) ?_
      refine z_icmp_ge (tgt := 35) hx hb dX0_placeOf_7 (by decide) (⟨by omega, by omega⟩) (⟨by omega, by omega⟩) (fun hc => ?_) (fun hc => ?_)
      · exact k35
      · obtain ⟨mm, hm⟩ : ∃ mm, mm = min n (8 * k + 8) := ⟨_, rfl⟩
        have hbk := hB k mm (by omega) (by omega) (by omega) (by omega)
        have cl3 := tc_cnt_le b mm
        refine lv_iload_n hx hb dX0_placeOf_10 rfl (lv_at hl 2 rfl) ?_
        refine lv_aload_n hx hb dX0_placeOf_11 rfl (lv_at hl 0 rfl) ?_
        refine va_get (D := D) (ci := 0) (v := .ref (A 1)) (C := RX0) (T := TX0) (N := 6) hx hb hts in_X0 hown hK hP 0 rfl rfl 2 (by decide) (hts _ q28) (fun _ h9 => h9) rfl dX0_placeOf_12 ?_
        refine lv_iload_n hx hb dX0_placeOf_15 rfl (lv_at hl 3 rfl) ?_
        refine z_bald hx hb hK hP 1 0 rfl rfl (k := k) (by omega) (by decide) (v := (zI ((tc_cnt b mm : Int) - (tc_cnt b (8 * k) : Int)))) (hbk.1) dX0_placeOf_16 ?_
        refine z_icmp_lt (tgt := 35) hx hb dX0_placeOf_17 (by decide) (⟨by omega, by omega⟩) (⟨by omega, by omega⟩) (fun hc2 => ?_) (fun hc2 => ?_)
        · exact k35
        · have hmp : mm ≤ p0 := by
            rcases Nat.lt_or_ge p0 mm with q | q
            · have := tc_cnt_lt hp2 q; omega
            · exact q
          have em : mm = 8 * k + 8 := by omega
          refine lv_iload_n hx hb dX0_placeOf_20 rfl (lv_at hl 2 rfl) ?_
          refine lv_aload_n hx hb dX0_placeOf_21 rfl (lv_at hl 0 rfl) ?_
          refine va_get (D := D) (ci := 0) (v := .ref (A 1)) (C := RX0) (T := TX0) (N := 6) hx hb hts in_X0 hown hK hP 0 rfl rfl 2 (by decide) (hts _ q28) (fun _ h9 => h9) rfl dX0_placeOf_22 ?_
          refine lv_iload_n hx hb dX0_placeOf_25 rfl (lv_at hl 3 rfl) ?_
          refine z_bald hx hb hK hP 1 0 rfl rfl (k := k) (by omega) (by decide) (v := (zI ((tc_cnt b mm : Int) - (tc_cnt b (8 * k) : Int)))) (hbk.1) dX0_placeOf_26 ?_
          refine z_isub hx hb dX0_placeOf_27 ?_
          refine z_set (y := (tc_cnt b p0 : Int) - (tc_cnt b (8 * (k + 1)) : Int)) (by rw [show 8 * (k + 1) = mm by omega]; omega) ?_
          refine lv_istore_n (lv' := [(2, .int (zI ((tc_cnt b p0 : Int) - (tc_cnt b (8 * (k + 1)) : Int)))), (0, .ref (A 0)), (1, .int (zI ((tc_cnt b p0 : Int)))), (3, .int (zI ((k : Int))))]) hx hb dX0_placeOf_28 rfl hl (by decide) rfl (fun ls hl => ?_)
          refine lv_iinc (v := zI (((k + 1 : Nat) : Int))) (lv' := [(3, .int (zI (((k + 1 : Nat) : Int)))), (2, .int (zI ((tc_cnt b p0 : Int) - (tc_cnt b (8 * (k + 1)) : Int)))), (0, .ref (A 0)), (1, .int (zI ((tc_cnt b p0 : Int))))]) hx hb dX0_placeOf_29 hl (k := 3) rfl (zI_inc (by omega)) (by decide) rfl (fun ls hl => ?_)
          refine lv_goto (tgt := 4) hx hb dX0_placeOf_32 (by decide) ?_
          exact ih (k + 1) (by omega) (by omega) (by omega) ls (lv_sub hl [2, 3, 1, 0] rfl)
  refine lv_iload_n hx hb dX0_placeOf_0 rfl (lv_at hl 1 rfl) ?_
  refine z_set (y := (tc_cnt b p0 : Int) - (tc_cnt b (8 * 0) : Int)) (by rw [show tc_cnt b (8 * 0) = 0 from rfl]; omega) ?_
  refine lv_istore_n (lv' := [(2, .int (zI ((tc_cnt b p0 : Int) - (tc_cnt b (8 * 0) : Int)))), (0, .ref (A 0)), (1, .int (zI ((tc_cnt b p0 : Int))))]) hx hb dX0_placeOf_1 rfl hl (by decide) rfl (fun ls hl => ?_)
  refine lv_iconst (v := zI 0) hx hb dX0_placeOf_2 rfl ?_
  refine lv_istore_n (lv' := [(3, .int (zI (0))), (2, .int (zI ((tc_cnt b p0 : Int) - (tc_cnt b (8 * 0) : Int)))), (0, .ref (A 0)), (1, .int (zI ((tc_cnt b p0 : Int))))]) hx hb dX0_placeOf_3 rfl hl (by decide) rfl (fun ls hl => ?_)
  exact loop1 9 0 (by omega) (by omega) (by omega) ls (lv_sub hl [2, 3, 1, 0] rfl)
end
section
abbrev rmX0_forwardTo : Room := { frames := 3, cells := 0, slots := 0, locals := 67 }
set_option maxHeartbeats 4000000 in
set_option maxRecDepth 100000 in
theorem kX_forwardTo (l : Launch) (D : va_G) (A : Nat → Nat) (d : Nat → ClassId) {w : Int64} {F : Nat → Nat → Int32} {n : Nat} {b : Nat → Bool} (hI : tc_xI n b w F) (P : Nat) (hP0 : P ≤ n) (g : Int) (hg : zs g) : ro_Met l yX0_forwardTo cX0_forwardTo 7 (some .int) rmX0_forwardTo D (tc_xW A w (zI (n : Int)) d F) (tc_xT d) [.ref (A 0), .int (zI ((P : Int))), .int (zI (g))] (fun r => ∃ e : Nat, r = zI (e : Int) ∧ P ≤ e ∧ e ≤ n ∧ (∀ i, P < i → i ≤ e → g < tc_lev b i) ∧ (e < n → tc_lev b (e + 1) ≤ g)) := by
  refine ro_of (by decide) (Nat.le_of_ble_eq_true rfl) ?_
  intro p e s m below meth c ls C hl
  obtain ⟨hx, hb, hr, hml, hown, hts, hlocks, hP, hK⟩ := C
  have hown : s.vm.findClass RX0 = some m.cls := hown
  have hl : lv_has ls 7 [(0, .ref (A 0)), (1, .int (zI ((P : Int)))), (2, .int (zI (g)))] := hl
  obtain ⟨hn, hok, hw, hB⟩ := id hI
  obtain ⟨g1, g2⟩ := id hg
  have loop : ∀ (f : Nat) (i : Nat) (L : Int), n + 9 ≤ i + f → i ≤ n + 8 → P ≤ i → (i ≤ n → L = tc_lev b i) → (∀ j, P < j → j ≤ i → j ≤ n → g < tc_lev b j) → ∀ (ls : Array Slot), lv_has ls 7 [(0, .ref (A 0)), (1, .int (zI ((P : Int)))), (2, .int (zI (g))), (3, .int (zI (L))), (4, .int (zI ((i : Int))))] → ro_G p l e s m below meth c yX0_forwardTo cX0_forwardTo 7 (some .int) rmX0_forwardTo [.ref (A 0), .int (zI ((P : Int))), .int (zI (g))] (fun r => ∃ e : Nat, r = zI (e : Int) ∧ P ≤ e ∧ e ≤ n ∧ (∀ i, P < i → i ≤ e → g < tc_lev b i) ∧ (e < n → tc_lev b (e + 1) ≤ g)) (F0 m 9 ls []) := by
    intro f
    induction f with
    | zero => intro i L h1 h5 h2 h3 h4; exact absurd h1 (by omega)
    | succ f ih =>
      intro i L h1 h5 h2 h3 h4 ls hl
      refine lv_iload hx hb dX0_forwardTo_9 (lv_at hl 4 rfl) ?_
      refine lv_aload_n hx hb dX0_forwardTo_11 rfl (lv_at hl 0 rfl) ?_
      refine va_get (D := D) (ci := 0) (v := .int (zI ((n : Int)))) (C := RX0) (T := TX0) (N := 6) hx hb hts in_X0 hown hK hP 0 rfl rfl 1 (by decide) (hts _ q27) (fun _ h9 => h9) rfl dX0_forwardTo_12 ?_
      refine z_icmp_ge (tgt := 105) hx hb dX0_forwardTo_15 (by decide) (⟨by omega, by omega⟩) (⟨by omega, by omega⟩) (fun hc => ?_) (fun hc => ?_)
      · refine lv_aload_n hx hb dX0_forwardTo_105 rfl (lv_at hl 0 rfl) ?_
        refine va_get (D := D) (ci := 0) (v := .int (zI ((n : Int)))) (C := RX0) (T := TX0) (N := 6) hx hb hts in_X0 hown hK hP 0 rfl rfl 1 (by decide) (hts _ q27) (fun _ h9 => h9) rfl dX0_forwardTo_106 ?_
        exact ro_ret hx hb hr hlocks (⟨n, rfl, hP0, Nat.le_refl n, fun j a c => h4 j a (by omega) c, fun q => absurd q (Nat.lt_irrefl n)⟩) dX0_forwardTo_109
      · have eL : L = tc_lev b i := h3 (by omega)
        subst eL
        have l1 := tc_lev_le b i
        have l2 := tc_lev_ge b i
        refine lv_iload hx hb dX0_forwardTo_18 (lv_at hl 4 rfl) ?_
        refine lv_bipush (v := zI 8) hx hb dX0_forwardTo_20 (by decide) ?_
        refine z_idiv (a := i) hx hb (by omega) dX0_forwardTo_22 ?_
        refine lv_istore (lv' := [(5, .int (zI (((i / 8 : Nat) : Int)))), (0, .ref (A 0)), (1, .int (zI ((P : Int)))), (2, .int (zI (g))), (3, .int (zI ((tc_lev b i)))), (4, .int (zI ((i : Int))))]) hx hb dX0_forwardTo_23 hl (by decide) rfl (fun ls hl => ?_)
        refine lv_iload hx hb dX0_forwardTo_25 (lv_at hl 5 rfl) ?_
        refine lv_bipush (v := zI 8) hx hb dX0_forwardTo_27 (by decide) ?_
        refine z_irem (a := i) hx hb (by omega) dX0_forwardTo_29 ?_
        suffices k51 : ∀ r : Int32, tc_bit (i % 8 = 0 ∧ ∀ j, i < j → j ≤ i + 8 → j ≤ n → g < tc_lev b j) r → ro_G p l e s m below meth c yX0_forwardTo cX0_forwardTo 7 (some .int) rmX0_forwardTo [.ref (A 0), .int (zI ((P : Int))), .int (zI (g))] (fun r => ∃ e : Nat, r = zI (e : Int) ∧ P ≤ e ∧ e ≤ n ∧ (∀ i, P < i → i ≤ e → g < tc_lev b i) ∧ (e < n → tc_lev b (e + 1) ≤ g)) (F0 m 51 ls [.int (r)]) by
          refine z_if_ne (tgt := 50) hx hb dX0_forwardTo_30 (by decide) (⟨by omega, by omega⟩) (fun hc2 => ?_) (fun hc2 => ?_)
          · refine lv_iconst (v := zI 0) hx hb dX0_forwardTo_50 rfl ?_
            exact k51 _ (tc_bit_0 (fun q => hc2 (by omega)))
          · have e8 : 8 * (i / 8) = i := by omega
            obtain ⟨mm, hm⟩ : ∃ mm, mm = min n (i + 8) := ⟨_, rfl⟩
            have hbk := hB (i / 8) mm (by omega) (by omega) (by omega) (by omega)
            unfold tc_blk at hbk
            rw [e8] at hbk
            obtain ⟨_, _, ⟨u, hu, hu1, x, hx1, hx2, hx3⟩, _⟩ := hbk
            have lx1 := tc_lev_le b x
            have lx2 := tc_lev_ge b x
            refine lv_iload_n hx hb dX0_forwardTo_33 rfl (lv_at hl 4 rfl) ?_
            refine lv_aload_n hx hb dX0_forwardTo_34 rfl (lv_at hl 1 rfl) ?_
            refine va_get (D := D) (ci := 0) (v := .ref (A 3)) (C := RX0) (T := TX0) (N := 6) hx hb hts in_X0 hown hK hP 0 rfl rfl 4 (by decide) (hts _ q30) (fun _ h9 => h9) rfl dX0_forwardTo_35 ?_
            refine lv_iload hx hb dX0_forwardTo_38 (lv_at hl 0 rfl) ?_
            refine z_bald hx hb hK hP 3 2 rfl rfl (k := i / 8) (by omega) (by decide) (v := (zI (u))) (hu) dX0_forwardTo_40 ?_
            refine z_iadd hx hb dX0_forwardTo_41 ?_
            refine lv_iload_n hx hb dX0_forwardTo_42 rfl (lv_at hl 3 rfl) ?_
            refine z_icmp_le (tgt := 50) hx hb dX0_forwardTo_43 (by decide) (⟨by omega, by omega⟩) (⟨by omega, by omega⟩) (fun hc3 => ?_) (fun hc3 => ?_)
            · refine lv_iconst (v := zI 0) hx hb dX0_forwardTo_50 rfl ?_
              exact k51 _ (tc_bit_0 (fun q => by have := q.2 x hx1 (by omega) (by omega); omega))
            · refine lv_iconst (v := zI 1) hx hb dX0_forwardTo_46 rfl ?_
              refine lv_goto (tgt := 51) hx hb dX0_forwardTo_47 (by decide) ?_
              exact k51 _ (tc_bit_1 ⟨by omega, fun j a c d => by have := hu1 j a (by omega); omega⟩)
        intro r hT
        refine lv_istore (lv' := [(6, .int (r)), (5, .int (zI (((i / 8 : Nat) : Int)))), (0, .ref (A 0)), (1, .int (zI ((P : Int)))), (2, .int (zI (g))), (3, .int (zI ((tc_lev b i)))), (4, .int (zI ((i : Int))))]) hx hb dX0_forwardTo_51 hl (by decide) rfl (fun ls hl => ?_)
        refine lv_iload hx hb dX0_forwardTo_53 (lv_at hl 0 rfl) ?_
        refine t_if_eq (tgt := 74) hx hb dX0_forwardTo_55 (by decide) hT (fun hc4 => ?_) (fun hc4 => ?_)
        · refine lv_iload_n hx hb dX0_forwardTo_74 rfl (lv_at hl 5 rfl) ?_
          refine lv_aload_n hx hb dX0_forwardTo_75 rfl (lv_at hl 2 rfl) ?_
          refine lv_iload hx hb dX0_forwardTo_76 (lv_at hl 6 rfl) ?_
          refine ro_call (n := 1) hx hb hml hown hts (kX_opensAt l D A d hI (i) (by omega)) (lw_V q54 q56 qs1 q16 q57) (by decide +kernel) ⟨Nat.le_of_ble_eq_true rfl, Nat.le_of_ble_eq_true rfl⟩ ⟨rfl, rfl⟩ hK hP rfl rfl rfl hl rfl (Nat.le_of_ble_eq_true rfl) dX0_forwardTo_78 ⟨Nat.le_of_ble_eq_true rfl, Nat.le_of_ble_eq_true rfl⟩ (fun r78 hO => ?_)
          suffices kM : ro_G p l e s m below meth c yX0_forwardTo cX0_forwardTo 7 (some .int) rmX0_forwardTo [.ref (A 0), .int (zI ((P : Int))), .int (zI (g))] (fun r => ∃ e : Nat, r = zI (e : Int) ∧ P ≤ e ∧ e ≤ n ∧ (∀ i, P < i → i ≤ e → g < tc_lev b i) ∧ (e < n → tc_lev b (e + 1) ≤ g)) (F0 m 89 ls [.int (zI (tc_d (b (i)))), .int (zI ((tc_lev b i)))]) by
            refine t_if_eq (tgt := 88) hx hb dX0_forwardTo_81 (by decide) hO (fun hc => ?_) (fun hc => ?_)
            · refine lv_iconst (v := zI (-1)) hx hb dX0_forwardTo_88 rfl ?_
              exact z_set (by rw [ts_nt hc]; rfl) kM
            · refine lv_iconst (v := zI 1) hx hb dX0_forwardTo_84 rfl ?_
              refine lv_goto (tgt := 89) hx hb dX0_forwardTo_85 (by decide) ?_
              exact z_set (by rw [hc]; rfl) kM
          refine z_iadd hx hb dX0_forwardTo_89 ?_
          refine z_set (y := tc_lev b (i + 1)) ((tc_lev_s b i).symm) ?_
          refine lv_istore_n (lv' := [(3, .int (zI (tc_lev b (i + 1)))), (6, .int (r)), (5, .int (zI (((i / 8 : Nat) : Int)))), (0, .ref (A 0)), (1, .int (zI ((P : Int)))), (2, .int (zI (g))), (4, .int (zI ((i : Int))))]) hx hb dX0_forwardTo_90 rfl hl (by decide) rfl (fun ls hl => ?_)
          have l3 := tc_lev_le b (i + 1)
          have l4 := tc_lev_ge b (i + 1)
          refine lv_iload_n hx hb dX0_forwardTo_91 rfl (lv_at hl 0 rfl) ?_
          refine lv_iload_n hx hb dX0_forwardTo_92 rfl (lv_at hl 5 rfl) ?_
          refine z_icmp_gt (tgt := 99) hx hb dX0_forwardTo_93 (by decide) (⟨by omega, by omega⟩) (⟨by omega, by omega⟩) (fun hc4 => ?_) (fun hc4 => ?_)
          · refine lv_iinc (v := zI (((i + 1 : Nat) : Int))) (lv' := [(4, .int (zI (((i + 1 : Nat) : Int)))), (3, .int (zI (tc_lev b (i + 1)))), (6, .int (r)), (5, .int (zI (((i / 8 : Nat) : Int)))), (0, .ref (A 0)), (1, .int (zI ((P : Int)))), (2, .int (zI (g)))]) hx hb dX0_forwardTo_99 hl (k := 6) rfl (zI_inc (by omega)) (by decide) rfl (fun ls hl => ?_)
            refine lv_goto (tgt := 9) hx hb dX0_forwardTo_102 (by decide) ?_
            refine ih (i + 1) (tc_lev b (i + 1)) (by omega) (by omega) (by omega) (fun _ => rfl) (fun j a c d => ?_) ls (lv_sub hl [4, 5, 6, 1, 0] rfl)
            by_cases ej : j = i + 1
            · rw [ej]; exact hc4
            · exact h4 j a (by omega) d
          · refine lv_iload hx hb dX0_forwardTo_96 (lv_at hl 6 rfl) ?_
            exact ro_ret hx hb hr hlocks (⟨i, rfl, h2, by omega, fun j a c => h4 j a c (by omega), fun _ => hc4⟩) dX0_forwardTo_98
        · have e8 : 8 * (i / 8) = i := by omega
          obtain ⟨mm, hm⟩ : ∃ mm, mm = min n (i + 8) := ⟨_, rfl⟩
          have hbk := hB (i / 8) mm (by omega) (by omega) (by omega) (by omega)
          unfold tc_blk at hbk
          rw [e8] at hbk
          refine lv_iload_n hx hb dX0_forwardTo_58 rfl (lv_at hl 5 rfl) ?_
          refine lv_aload_n hx hb dX0_forwardTo_59 rfl (lv_at hl 2 rfl) ?_
          refine va_get (D := D) (ci := 0) (v := .ref (A 2)) (C := RX0) (T := TX0) (N := 6) hx hb hts in_X0 hown hK hP 0 rfl rfl 3 (by decide) (hts _ q29) (fun _ h9 => h9) rfl dX0_forwardTo_60 ?_
          refine lv_iload hx hb dX0_forwardTo_63 (lv_at hl 1 rfl) ?_
          refine z_bald hx hb hK hP 2 1 rfl rfl (k := i / 8) (by omega) (by decide) (v := (zI (tc_lev b mm - tc_lev b i))) (hbk.2.1) dX0_forwardTo_65 ?_
          refine z_iadd hx hb dX0_forwardTo_66 ?_
          refine z_set (y := tc_lev b mm) (by omega) ?_
          refine lv_istore_n (lv' := [(3, .int (zI (tc_lev b mm))), (6, .int (r)), (5, .int (zI (((i / 8 : Nat) : Int)))), (0, .ref (A 0)), (1, .int (zI ((P : Int)))), (2, .int (zI (g))), (4, .int (zI ((i : Int))))]) hx hb dX0_forwardTo_67 rfl hl (by decide) rfl (fun ls hl => ?_)
          refine lv_iinc (v := zI (((i + 8 : Nat) : Int))) (lv' := [(4, .int (zI (((i + 8 : Nat) : Int)))), (3, .int (zI (tc_lev b mm))), (6, .int (r)), (5, .int (zI (((i / 8 : Nat) : Int)))), (0, .ref (A 0)), (1, .int (zI ((P : Int)))), (2, .int (zI (g)))]) hx hb dX0_forwardTo_68 hl (k := 6) rfl (zI_inc (by omega)) (by decide) rfl (fun ls hl => ?_)
          refine lv_goto (tgt := 102) hx hb dX0_forwardTo_71 (by decide) ?_
          refine lv_goto (tgt := 9) hx hb dX0_forwardTo_102 (by decide) ?_
          refine ih (i + 8) (tc_lev b mm) (by omega) (by omega) (by omega) (fun q => by rw [show mm = i + 8 by omega]) (fun j a c d => ?_) ls (lv_sub hl [4, 5, 6, 1, 0] rfl)
          rcases Nat.lt_or_ge i j with ej | ej
          · exact hc4.2 j ej (by omega) d
          · exact h4 j a ej d
  refine lv_aload_n hx hb dX0_forwardTo_0 rfl (lv_at hl 0 rfl) ?_
  refine lv_iload_n hx hb dX0_forwardTo_1 rfl (lv_at hl 1 rfl) ?_
  refine ro_calle (n := 1) hx hb hml hown hts (kX_levelBefore l D A d hI P hP0) (lw_V q74 q76 qs3 q16 q77) (by decide +kernel) ⟨Nat.le_of_ble_eq_true rfl, Nat.le_of_ble_eq_true rfl⟩ ⟨rfl, rfl⟩ hK hP rfl rfl rfl hl rfl (Nat.le_of_ble_eq_true rfl) dX0_forwardTo_2 ⟨Nat.le_of_ble_eq_true rfl, Nat.le_of_ble_eq_true rfl⟩ ?_
  refine lv_istore_n (lv' := [(3, .int (zI (tc_lev b P))), (0, .ref (A 0)), (1, .int (zI ((P : Int)))), (2, .int (zI (g)))]) hx hb dX0_forwardTo_5 rfl hl (by decide) rfl (fun ls hl => ?_)
  refine lv_iload_n hx hb dX0_forwardTo_6 rfl (lv_at hl 2 rfl) ?_
  refine lv_istore (lv' := [(4, .int (zI ((P : Int)))), (3, .int (zI (tc_lev b P))), (0, .ref (A 0)), (1, .int (zI ((P : Int)))), (2, .int (zI (g)))]) hx hb dX0_forwardTo_7 hl (by decide) rfl (fun ls hl => ?_)
  exact loop (n + 9) P (tc_lev b P) (by omega) (by omega) (by omega) (fun _ => rfl) (fun j a c _ => by omega) ls (lv_sub hl [2, 3, 4, 1, 0] rfl)
abbrev rmX0_backTo : Room := { frames := 3, cells := 0, slots := 0, locals := 67 }
set_option maxHeartbeats 4000000 in
set_option maxRecDepth 100000 in
theorem kX_backTo (l : Launch) (D : va_G) (A : Nat → Nat) (d : Nat → ClassId) {w : Int64} {F : Nat → Nat → Int32} {n : Nat} {b : Nat → Bool} (hI : tc_xI n b w F) (P : Nat) (hP0 : P ≤ n) (g : Int) (hg : 0 ≤ g) (hlt : g < tc_lev b P) : ro_Met l yX0_backTo cX0_backTo 7 (some .int) rmX0_backTo D (tc_xW A w (zI (n : Int)) d F) (tc_xT d) [.ref (A 0), .int (zI ((P : Int))), .int (zI (g))] (fun r => ∃ q : Nat, r = zI (q : Int) ∧ tc_bk b g P q) := by
  refine ro_of (by decide) (Nat.le_of_ble_eq_true rfl) ?_
  intro p e s m below meth c ls C hl
  obtain ⟨hx, hb, hr, hml, hown, hts, hlocks, hP, hK⟩ := C
  have hown : s.vm.findClass RX0 = some m.cls := hown
  have hl : lv_has ls 7 [(0, .ref (A 0)), (1, .int (zI ((P : Int)))), (2, .int (zI (g)))] := hl
  obtain ⟨hn, hok, hw, hB⟩ := id hI
  have lP := tc_lev_le b P
  have loop : ∀ (f : Nat) (i : Nat), i + 1 ≤ f → i ≤ P → (∀ j, i ≤ j → j ≤ P → g < tc_lev b j) → ∀ (ls : Array Slot), lv_has ls 7 [(0, .ref (A 0)), (1, .int (zI ((P : Int)))), (2, .int (zI (g))), (3, .int (zI (tc_lev b i))), (4, .int (zI ((i : Int))))] → ro_G p l e s m below meth c yX0_backTo cX0_backTo 7 (some .int) rmX0_backTo [.ref (A 0), .int (zI ((P : Int))), .int (zI (g))] (fun r => ∃ q : Nat, r = zI (q : Int) ∧ tc_bk b g P q) (F0 m 9 ls []) := by
    intro f
    induction f with
    | zero => intro i h1 h2 h3; exact absurd h1 (by omega)
    | succ f ih =>
      intro i h1 h2 h3 ls hl
      have l1 := tc_lev_le b i
      have l2 := tc_lev_ge b i
      have l3 := h3 i (Nat.le_refl i) h2
      refine lv_iload hx hb dX0_backTo_9 (lv_at hl 4 rfl) ?_
      refine z_if_le (tgt := 124) hx hb dX0_backTo_11 (by decide) (⟨by omega, by omega⟩) (fun hc => ?_) (fun hc => ?_)
      · exfalso
        rw [show i = 0 by omega, tc_lev_0] at l3
        omega
      · refine lv_iload hx hb dX0_backTo_14 (lv_at hl 4 rfl) ?_
        refine lv_iconst (v := zI 1) hx hb dX0_backTo_16 rfl ?_
        refine z_isub hx hb dX0_backTo_17 ?_
        refine z_set (y := ((i - 1 : Nat) : Int)) (by omega) ?_
        refine lv_bipush (v := zI 8) hx hb dX0_backTo_18 (by decide) ?_
        refine z_idiv (a := (i - 1)) hx hb (by omega) dX0_backTo_20 ?_
        refine lv_istore (lv' := [(5, .int (zI ((((i - 1) / 8 : Nat) : Int)))), (0, .ref (A 0)), (1, .int (zI ((P : Int)))), (2, .int (zI (g))), (3, .int (zI (tc_lev b i))), (4, .int (zI ((i : Int))))]) hx hb dX0_backTo_21 hl (by decide) rfl (fun ls hl => ?_)
        refine lv_iload hx hb dX0_backTo_23 (lv_at hl 5 rfl) ?_
        refine lv_bipush (v := zI 8) hx hb dX0_backTo_25 (by decide) ?_
        refine z_irem (a := i) hx hb (by omega) dX0_backTo_27 ?_
        suffices k70 : ∀ r : Int32, tc_bit (i % 8 = 0 ∧ ∀ j, i - 8 ≤ j → j ≤ i → g < tc_lev b j) r → ro_G p l e s m below meth c yX0_backTo cX0_backTo 7 (some .int) rmX0_backTo [.ref (A 0), .int (zI ((P : Int))), .int (zI (g))] (fun r => ∃ q : Nat, r = zI (q : Int) ∧ tc_bk b g P q) (F0 m 70 ls [.int (r)]) by
          refine z_if_ne (tgt := 69) hx hb dX0_backTo_28 (by decide) (⟨by omega, by omega⟩) (fun hc2 => ?_) (fun hc2 => ?_)
          · refine lv_iconst (v := zI 0) hx hb dX0_backTo_69 rfl ?_
            exact k70 _ (tc_bit_0 (fun q => hc2 (by omega)))
          · have e8 : 8 * ((i - 1) / 8) = i - 8 := by omega
            have hbk := hB ((i - 1) / 8) i (by omega) (by omega) (by omega) (by omega)
            unfold tc_blk at hbk
            rw [e8] at hbk
            have l4 := tc_lev_le b (i - 8)
            have l5 := tc_lev_ge b (i - 8)
            obtain ⟨_, hri, ⟨u, hu, hu1, x, hx1, hx2, hx3⟩, _⟩ := hbk
            have lx1 := tc_lev_le b x
            have lx2 := tc_lev_ge b x
            refine lv_iload_n hx hb dX0_backTo_31 rfl (lv_at hl 4 rfl) ?_
            refine lv_aload_n hx hb dX0_backTo_32 rfl (lv_at hl 1 rfl) ?_
            refine va_get (D := D) (ci := 0) (v := .ref (A 2)) (C := RX0) (T := TX0) (N := 6) hx hb hts in_X0 hown hK hP 0 rfl rfl 3 (by decide) (hts _ q29) (fun _ h9 => h9) rfl dX0_backTo_33 ?_
            refine lv_iload hx hb dX0_backTo_36 (lv_at hl 0 rfl) ?_
            refine z_bald hx hb hK hP 2 1 rfl rfl (k := (i - 1) / 8) (by omega) (by decide) (v := (zI (tc_lev b i - tc_lev b (i - 8)))) (hri) dX0_backTo_38 ?_
            refine z_isub hx hb dX0_backTo_39 ?_
            refine z_set (y := tc_lev b (i - 8)) (by omega) ?_
            refine lv_iload_n hx hb dX0_backTo_40 rfl (lv_at hl 3 rfl) ?_
            refine z_icmp_le (tgt := 69) hx hb dX0_backTo_41 (by decide) (⟨by omega, by omega⟩) (⟨by omega, by omega⟩) (fun hc3 => ?_) (fun hc3 => ?_)
            · refine lv_iconst (v := zI 0) hx hb dX0_backTo_69 rfl ?_
              exact k70 _ (tc_bit_0 (fun q => by have := q.2 (i - 8) (by omega) (by omega); omega))
            · refine lv_iload_n hx hb dX0_backTo_44 rfl (lv_at hl 4 rfl) ?_
              refine lv_aload_n hx hb dX0_backTo_45 rfl (lv_at hl 1 rfl) ?_
              refine va_get (D := D) (ci := 0) (v := .ref (A 2)) (C := RX0) (T := TX0) (N := 6) hx hb hts in_X0 hown hK hP 0 rfl rfl 3 (by decide) (hts _ q29) (fun _ h9 => h9) rfl dX0_backTo_46 ?_
              refine lv_iload hx hb dX0_backTo_49 (lv_at hl 0 rfl) ?_
              refine z_bald hx hb hK hP 2 1 rfl rfl (k := (i - 1) / 8) (by omega) (by decide) (v := (zI (tc_lev b i - tc_lev b (i - 8)))) (hri) dX0_backTo_51 ?_
              refine z_isub hx hb dX0_backTo_52 ?_
              refine z_set (y := tc_lev b (i - 8)) (by omega) ?_
              refine lv_aload_n hx hb dX0_backTo_53 rfl (lv_at hl 1 rfl) ?_
              refine va_get (D := D) (ci := 0) (v := .ref (A 3)) (C := RX0) (T := TX0) (N := 6) hx hb hts in_X0 hown hK hP 0 rfl rfl 4 (by decide) (hts _ q30) (fun _ h9 => h9) rfl dX0_backTo_54 ?_
              refine lv_iload hx hb dX0_backTo_57 (lv_at hl 0 rfl) ?_
              refine z_bald hx hb hK hP 3 2 rfl rfl (k := (i - 1) / 8) (by omega) (by decide) (v := (zI (u))) (hu) dX0_backTo_59 ?_
              refine z_iadd hx hb dX0_backTo_60 ?_
              refine lv_iload_n hx hb dX0_backTo_61 rfl (lv_at hl 3 rfl) ?_
              refine z_icmp_le (tgt := 69) hx hb dX0_backTo_62 (by decide) (⟨by omega, by omega⟩) (⟨by omega, by omega⟩) (fun hc4 => ?_) (fun hc4 => ?_)
              · refine lv_iconst (v := zI 0) hx hb dX0_backTo_69 rfl ?_
                exact k70 _ (tc_bit_0 (fun q => by have := q.2 x (by omega) hx2; omega))
              · refine lv_iconst (v := zI 1) hx hb dX0_backTo_65 rfl ?_
                refine lv_goto (tgt := 70) hx hb dX0_backTo_66 (by decide) ?_
                refine k70 _ (tc_bit_1 ⟨by omega, fun j a c => ?_⟩)
                by_cases ej : j = i - 8
                · rw [ej]; exact hc3
                · have := hu1 j (by omega) c; omega
        intro r hT
        refine lv_istore (lv' := [(6, .int (r)), (5, .int (zI ((((i - 1) / 8 : Nat) : Int)))), (0, .ref (A 0)), (1, .int (zI ((P : Int)))), (2, .int (zI (g))), (3, .int (zI (tc_lev b i))), (4, .int (zI ((i : Int))))]) hx hb dX0_backTo_70 hl (by decide) rfl (fun ls hl => ?_)
        refine lv_iload hx hb dX0_backTo_72 (lv_at hl 0 rfl) ?_
        refine t_if_eq (tgt := 93) hx hb dX0_backTo_74 (by decide) hT (fun hc4 => ?_) (fun hc4 => ?_)
        · refine lv_iinc (v := zI (((i - 1 : Nat) : Int))) (lv' := [(4, .int (zI (((i - 1 : Nat) : Int)))), (6, .int (r)), (5, .int (zI ((((i - 1) / 8 : Nat) : Int)))), (0, .ref (A 0)), (1, .int (zI ((P : Int)))), (2, .int (zI (g))), (3, .int (zI (tc_lev b i)))]) hx hb dX0_backTo_93 hl (k := 6) rfl (zI_inc (by omega)) (by decide) rfl (fun ls hl => ?_)
          have es := tc_lev_s b (i - 1)
          rw [show i - 1 + 1 = i by omega] at es
          have l4 := tc_lev_le b (i - 1)
          have l5 := tc_lev_ge b (i - 1)
          refine lv_iload_n hx hb dX0_backTo_96 rfl (lv_at hl 6 rfl) ?_
          refine lv_aload_n hx hb dX0_backTo_97 rfl (lv_at hl 3 rfl) ?_
          refine lv_iload hx hb dX0_backTo_98 (lv_at hl 0 rfl) ?_
          refine ro_call (n := 1) hx hb hml hown hts (kX_opensAt l D A d hI (i - 1) (by omega)) (lw_V q54 q56 qs1 q16 q57) (by decide +kernel) ⟨Nat.le_of_ble_eq_true rfl, Nat.le_of_ble_eq_true rfl⟩ ⟨rfl, rfl⟩ hK hP rfl rfl rfl hl rfl (Nat.le_of_ble_eq_true rfl) dX0_backTo_100 ⟨Nat.le_of_ble_eq_true rfl, Nat.le_of_ble_eq_true rfl⟩ (fun r100 hO => ?_)
          suffices kM : ro_G p l e s m below meth c yX0_backTo cX0_backTo 7 (some .int) rmX0_backTo [.ref (A 0), .int (zI ((P : Int))), .int (zI (g))] (fun r => ∃ q : Nat, r = zI (q : Int) ∧ tc_bk b g P q) (F0 m 111 ls [.int (zI (tc_d (b (i - 1)))), .int (zI (tc_lev b i))]) by
            refine t_if_eq (tgt := 110) hx hb dX0_backTo_103 (by decide) hO (fun hc => ?_) (fun hc => ?_)
            · refine lv_iconst (v := zI (-1)) hx hb dX0_backTo_110 rfl ?_
              exact z_set (by rw [ts_nt hc]; rfl) kM
            · refine lv_iconst (v := zI 1) hx hb dX0_backTo_106 rfl ?_
              refine lv_goto (tgt := 111) hx hb dX0_backTo_107 (by decide) ?_
              exact z_set (by rw [hc]; rfl) kM
          refine z_isub hx hb dX0_backTo_111 ?_
          refine z_set (y := tc_lev b (i - 1)) (by omega) ?_
          refine lv_istore_n (lv' := [(3, .int (zI (tc_lev b (i - 1)))), (4, .int (zI (((i - 1 : Nat) : Int)))), (6, .int (r)), (5, .int (zI ((((i - 1) / 8 : Nat) : Int)))), (0, .ref (A 0)), (1, .int (zI ((P : Int)))), (2, .int (zI (g)))]) hx hb dX0_backTo_112 rfl hl (by decide) rfl (fun ls hl => ?_)
          refine lv_iload_n hx hb dX0_backTo_113 rfl (lv_at hl 0 rfl) ?_
          refine lv_iload_n hx hb dX0_backTo_114 rfl (lv_at hl 6 rfl) ?_
          refine z_icmp_gt (tgt := 121) hx hb dX0_backTo_115 (by decide) (⟨by omega, by omega⟩) (⟨by omega, by omega⟩) (fun hc4 => ?_) (fun hc4 => ?_)
          · refine lv_goto (tgt := 9) hx hb dX0_backTo_121 (by decide) ?_
            refine ih (i - 1) (by omega) (by omega) (fun j a c => ?_) ls (lv_sub hl [4, 5, 6, 0, 1] rfl)
            by_cases ej : j = i - 1
            · rw [ej]; exact hc4
            · exact h3 j (by omega) c
          · refine lv_iload hx hb dX0_backTo_118 (lv_at hl 1 rfl) ?_
            have hst := tc_lev_1 b (i - 1)
            rw [show i - 1 + 1 = i by omega] at hst
            exact ro_ret hx hb hr hlocks (⟨i - 1, rfl, by omega, by rcases hst with ⟨u, v⟩ | ⟨u, v⟩; exact u; omega, by rcases hst with ⟨u, v⟩ | ⟨u, v⟩ <;> omega, fun j a c => h3 j (by omega) c⟩) dX0_backTo_120
        · have e8 : 8 * ((i - 1) / 8) = i - 8 := by omega
          have hbk := hB ((i - 1) / 8) i (by omega) (by omega) (by omega) (by omega)
          unfold tc_blk at hbk
          rw [e8] at hbk
          have l4 := tc_lev_le b (i - 8)
          have l5 := tc_lev_ge b (i - 8)
          refine lv_iload_n hx hb dX0_backTo_77 rfl (lv_at hl 5 rfl) ?_
          refine lv_aload_n hx hb dX0_backTo_78 rfl (lv_at hl 2 rfl) ?_
          refine va_get (D := D) (ci := 0) (v := .ref (A 2)) (C := RX0) (T := TX0) (N := 6) hx hb hts in_X0 hown hK hP 0 rfl rfl 3 (by decide) (hts _ q29) (fun _ h9 => h9) rfl dX0_backTo_79 ?_
          refine lv_iload hx hb dX0_backTo_82 (lv_at hl 1 rfl) ?_
          refine z_bald hx hb hK hP 2 1 rfl rfl (k := (i - 1) / 8) (by omega) (by decide) (v := (zI (tc_lev b i - tc_lev b (i - 8)))) (hbk.2.1) dX0_backTo_84 ?_
          refine z_isub hx hb dX0_backTo_85 ?_
          refine z_set (y := tc_lev b (i - 8)) (by omega) ?_
          refine lv_istore_n (lv' := [(3, .int (zI (tc_lev b (i - 8)))), (6, .int (r)), (5, .int (zI ((((i - 1) / 8 : Nat) : Int)))), (0, .ref (A 0)), (1, .int (zI ((P : Int)))), (2, .int (zI (g))), (4, .int (zI ((i : Int))))]) hx hb dX0_backTo_86 rfl hl (by decide) rfl (fun ls hl => ?_)
          refine lv_iinc (v := zI (((i - 8 : Nat) : Int))) (lv' := [(4, .int (zI (((i - 8 : Nat) : Int)))), (3, .int (zI (tc_lev b (i - 8)))), (6, .int (r)), (5, .int (zI ((((i - 1) / 8 : Nat) : Int)))), (0, .ref (A 0)), (1, .int (zI ((P : Int)))), (2, .int (zI (g)))]) hx hb dX0_backTo_87 hl (k := 6) rfl (zI_inc (by omega)) (by decide) rfl (fun ls hl => ?_)
          refine lv_goto (tgt := 121) hx hb dX0_backTo_90 (by decide) ?_
          refine lv_goto (tgt := 9) hx hb dX0_backTo_121 (by decide) ?_
          refine ih (i - 8) (by omega) (by omega) (fun j a c => ?_) ls (lv_sub hl [4, 5, 6, 1, 0] rfl)
          rcases Nat.lt_or_ge i j with ej | ej
          · exact h3 j (by omega) c
          · exact hc4.2 j a ej
  refine lv_aload_n hx hb dX0_backTo_0 rfl (lv_at hl 0 rfl) ?_
  refine lv_iload_n hx hb dX0_backTo_1 rfl (lv_at hl 1 rfl) ?_
  refine ro_calle (n := 1) hx hb hml hown hts (kX_levelBefore l D A d hI P hP0) (lw_V q74 q76 qs3 q16 q77) (by decide +kernel) ⟨Nat.le_of_ble_eq_true rfl, Nat.le_of_ble_eq_true rfl⟩ ⟨rfl, rfl⟩ hK hP rfl rfl rfl hl rfl (Nat.le_of_ble_eq_true rfl) dX0_backTo_2 ⟨Nat.le_of_ble_eq_true rfl, Nat.le_of_ble_eq_true rfl⟩ ?_
  refine lv_istore_n (lv' := [(3, .int (zI (tc_lev b P))), (0, .ref (A 0)), (1, .int (zI ((P : Int)))), (2, .int (zI (g)))]) hx hb dX0_backTo_5 rfl hl (by decide) rfl (fun ls hl => ?_)
  refine lv_iload_n hx hb dX0_backTo_6 rfl (lv_at hl 2 rfl) ?_
  refine lv_istore (lv' := [(4, .int (zI ((P : Int)))), (3, .int (zI (tc_lev b P))), (0, .ref (A 0)), (1, .int (zI ((P : Int)))), (2, .int (zI (g)))]) hx hb dX0_backTo_7 hl (by decide) rfl (fun ls hl => ?_)
  exact loop (P + 1) P (by omega) (by omega) (fun j a c => by rw [show j = P by omega]; exact hlt) ls (lv_sub hl [2, 3, 4, 1, 0] rfl)
abbrev rmX0_leastBetween : Room := { frames := 3, cells := 0, slots := 0, locals := 67 }
set_option maxHeartbeats 4000000 in
set_option maxRecDepth 100000 in
theorem kX_leastBetween (l : Launch) (D : va_G) (A : Nat → Nat) (d : Nat → ClassId) {w : Int64} {F : Nat → Nat → Int32} {n : Nat} {b : Nat → Bool} (hI : tc_xI n b w F) (P T : Nat) (hP0 : P ≤ T) (hT0 : T ≤ n) : ro_Met l yX0_leastBetween cX0_leastBetween 7 (some .int) rmX0_leastBetween D (tc_xW A w (zI (n : Int)) d F) (tc_xT d) [.ref (A 0), .int (zI ((P : Int))), .int (zI ((T : Int)))] (fun r => ∃ x : Int, r = zI x ∧ zs x ∧ (∀ j, P < j → j ≤ T → x ≤ tc_lev b j) ∧ (x = 64 ∨ ∃ j, P < j ∧ j ≤ T ∧ x = tc_lev b j)) := by
  refine ro_of (by decide) (Nat.le_of_ble_eq_true rfl) ?_
  intro p e s m below meth c ls C hl
  obtain ⟨hx, hb, hr, hml, hown, hts, hlocks, hP, hK⟩ := C
  have hown : s.vm.findClass RX0 = some m.cls := hown
  have hl : lv_has ls 7 [(0, .ref (A 0)), (1, .int (zI ((P : Int)))), (2, .int (zI ((T : Int))))] := hl
  obtain ⟨hn, hok, hw, hB⟩ := id hI
  have loop : ∀ (f : Nat) (i : Nat) (x : Int), T + 1 ≤ i + f → P ≤ i → i ≤ T → (-64 ≤ x ∧ x ≤ 64) → (∀ j, P < j → j ≤ i → x ≤ tc_lev b j) → (x = 64 ∨ ∃ j, P < j ∧ j ≤ i ∧ x = tc_lev b j) → ∀ (ls : Array Slot), lv_has ls 7 [(0, .ref (A 0)), (1, .int (zI ((P : Int)))), (2, .int (zI ((T : Int)))), (3, .int (zI (tc_lev b i))), (4, .int (zI (x))), (5, .int (zI ((i : Int))))] → ro_G p l e s m below meth c yX0_leastBetween cX0_leastBetween 7 (some .int) rmX0_leastBetween [.ref (A 0), .int (zI ((P : Int))), .int (zI ((T : Int)))] (fun r => ∃ x : Int, r = zI x ∧ zs x ∧ (∀ j, P < j → j ≤ T → x ≤ tc_lev b j) ∧ (x = 64 ∨ ∃ j, P < j ∧ j ≤ T ∧ x = tc_lev b j)) (F0 m 13 ls []) := by
    intro f
    induction f with
    | zero => intro i x h1 h2 h3 h4 h5 h6; exact absurd h1 (by omega)
    | succ f ih =>
      intro i x h1 h2 h3 h4 h5 h6 ls hl
      obtain ⟨x1, x2⟩ := h4
      have l1 := tc_lev_le b i
      have l2 := tc_lev_ge b i
      refine lv_iload hx hb dX0_leastBetween_13 (lv_at hl 5 rfl) ?_
      refine lv_iload_n hx hb dX0_leastBetween_15 rfl (lv_at hl 2 rfl) ?_
      refine z_icmp_ge (tgt := 126) hx hb dX0_leastBetween_16 (by decide) (⟨by omega, by omega⟩) (⟨by omega, by omega⟩) (fun hc => ?_) (fun hc => ?_)
      · have ei : i = T := by omega
        subst ei
        refine lv_iload hx hb dX0_leastBetween_126 (lv_at hl 4 rfl) ?_
        exact ro_ret hx hb hr hlocks (⟨x, rfl, ⟨by omega, by omega⟩, h5, h6⟩) dX0_leastBetween_128
      · refine lv_iload hx hb dX0_leastBetween_19 (lv_at hl 5 rfl) ?_
        refine lv_bipush (v := zI 8) hx hb dX0_leastBetween_21 (by decide) ?_
        refine z_idiv (a := i) hx hb (by omega) dX0_leastBetween_23 ?_
        refine lv_istore (lv' := [(6, .int (zI (((i / 8 : Nat) : Int)))), (0, .ref (A 0)), (1, .int (zI ((P : Int)))), (2, .int (zI ((T : Int)))), (3, .int (zI (tc_lev b i))), (4, .int (zI (x))), (5, .int (zI ((i : Int))))]) hx hb dX0_leastBetween_24 hl (by decide) rfl (fun ls hl => ?_)
        have k89 : ro_G p l e s m below meth c yX0_leastBetween cX0_leastBetween 7 (some .int) rmX0_leastBetween [.ref (A 0), .int (zI ((P : Int))), .int (zI ((T : Int)))] (fun r => ∃ x : Int, r = zI x ∧ zs x ∧ (∀ j, P < j → j ≤ T → x ≤ tc_lev b j) ∧ (x = 64 ∨ ∃ j, P < j ∧ j ≤ T ∧ x = tc_lev b j)) (F0 m 89 ls []) := by
          have l3 := tc_lev_le b (i + 1)
          have l4 := tc_lev_ge b (i + 1)
          refine lv_iload_n hx hb dX0_leastBetween_89 rfl (lv_at hl 4 rfl) ?_
          refine lv_aload_n hx hb dX0_leastBetween_90 rfl (lv_at hl 1 rfl) ?_
          refine lv_iload hx hb dX0_leastBetween_91 (lv_at hl 6 rfl) ?_
          refine ro_call (n := 1) hx hb hml hown hts (kX_opensAt l D A d hI (i) (by omega)) (lw_V q54 q56 qs1 q16 q57) (by decide +kernel) ⟨Nat.le_of_ble_eq_true rfl, Nat.le_of_ble_eq_true rfl⟩ ⟨rfl, rfl⟩ hK hP rfl rfl rfl hl rfl (Nat.le_of_ble_eq_true rfl) dX0_leastBetween_93 ⟨Nat.le_of_ble_eq_true rfl, Nat.le_of_ble_eq_true rfl⟩ (fun r93 hO => ?_)
          suffices kM : ro_G p l e s m below meth c yX0_leastBetween cX0_leastBetween 7 (some .int) rmX0_leastBetween [.ref (A 0), .int (zI ((P : Int))), .int (zI ((T : Int)))] (fun r => ∃ x : Int, r = zI x ∧ zs x ∧ (∀ j, P < j → j ≤ T → x ≤ tc_lev b j) ∧ (x = 64 ∨ ∃ j, P < j ∧ j ≤ T ∧ x = tc_lev b j)) (F0 m 104 ls [.int (zI (tc_d (b (i)))), .int (zI (tc_lev b i))]) by
            refine t_if_eq (tgt := 103) hx hb dX0_leastBetween_96 (by decide) hO (fun hc => ?_) (fun hc => ?_)
            · refine lv_iconst (v := zI (-1)) hx hb dX0_leastBetween_103 rfl ?_
              exact z_set (by rw [ts_nt hc]; rfl) kM
            · refine lv_iconst (v := zI 1) hx hb dX0_leastBetween_99 rfl ?_
              refine lv_goto (tgt := 104) hx hb dX0_leastBetween_100 (by decide) ?_
              exact z_set (by rw [hc]; rfl) kM
          refine z_iadd hx hb dX0_leastBetween_104 ?_
          refine z_set (y := tc_lev b (i + 1)) ((tc_lev_s b i).symm) ?_
          refine lv_istore_n (lv' := [(3, .int (zI (tc_lev b (i + 1)))), (6, .int (zI (((i / 8 : Nat) : Int)))), (0, .ref (A 0)), (1, .int (zI ((P : Int)))), (2, .int (zI ((T : Int)))), (4, .int (zI (x))), (5, .int (zI ((i : Int))))]) hx hb dX0_leastBetween_105 rfl hl (by decide) rfl (fun ls hl => ?_)
          refine lv_iload_n hx hb dX0_leastBetween_106 rfl (lv_at hl 0 rfl) ?_
          refine lv_iload hx hb dX0_leastBetween_107 (lv_at hl 5 rfl) ?_
          suffices kM : ro_G p l e s m below meth c yX0_leastBetween cX0_leastBetween 7 (some .int) rmX0_leastBetween [.ref (A 0), .int (zI ((P : Int))), .int (zI ((T : Int)))] (fun r => ∃ x : Int, r = zI x ∧ zs x ∧ (∀ j, P < j → j ≤ T → x ≤ tc_lev b j) ∧ (x = 64 ∨ ∃ j, P < j ∧ j ≤ T ∧ x = tc_lev b j)) (F0 m 118 ls [.int (zI (min (tc_lev b (i + 1)) x))]) by
            refine z_icmp_ge (tgt := 116) hx hb dX0_leastBetween_109 (by decide) (⟨by omega, by omega⟩) (⟨by omega, by omega⟩) (fun hc2 => ?_) (fun hc2 => ?_)
            · refine lv_iload hx hb dX0_leastBetween_116 (lv_at hl 5 rfl) ?_
              exact z_set (by omega) kM
            · refine lv_iload_n hx hb dX0_leastBetween_112 rfl (lv_at hl 0 rfl) ?_
              refine lv_goto (tgt := 118) hx hb dX0_leastBetween_113 (by decide) ?_
              exact z_set (by omega) kM
          refine lv_istore (lv' := [(4, .int (zI (min (tc_lev b (i + 1)) x))), (3, .int (zI (tc_lev b (i + 1)))), (6, .int (zI (((i / 8 : Nat) : Int)))), (0, .ref (A 0)), (1, .int (zI ((P : Int)))), (2, .int (zI ((T : Int)))), (5, .int (zI ((i : Int))))]) hx hb dX0_leastBetween_118 hl (by decide) rfl (fun ls hl => ?_)
          refine lv_iinc (v := zI (((i + 1 : Nat) : Int))) (lv' := [(5, .int (zI (((i + 1 : Nat) : Int)))), (4, .int (zI (min (tc_lev b (i + 1)) x))), (3, .int (zI (tc_lev b (i + 1)))), (6, .int (zI (((i / 8 : Nat) : Int)))), (0, .ref (A 0)), (1, .int (zI ((P : Int)))), (2, .int (zI ((T : Int))))]) hx hb dX0_leastBetween_120 hl (k := 6) rfl (zI_inc (by omega)) (by decide) rfl (fun ls hl => ?_)
          refine lv_goto (tgt := 13) hx hb dX0_leastBetween_123 (by decide) ?_
          refine ih (i + 1) (min (tc_lev b (i + 1)) x) (by omega) (by omega) (by omega) ⟨by omega, by omega⟩ (fun j a c => ?_) ?_ ls (lv_sub hl [4, 5, 6, 2, 1, 0] rfl)
          · by_cases ej : j = i + 1
            · rw [ej]; omega
            · have := h5 j a (by omega); omega
          · by_cases ex : tc_lev b (i + 1) ≤ x
            · exact Or.inr ⟨i + 1, by omega, by omega, by omega⟩
            · rcases h6 with h6 | ⟨j, a, c, e⟩
              · exact Or.inl (by omega)
              · exact Or.inr ⟨j, a, by omega, by omega⟩
        refine lv_iload hx hb dX0_leastBetween_26 (lv_at hl 6 rfl) ?_
        refine lv_bipush (v := zI 8) hx hb dX0_leastBetween_28 (by decide) ?_
        refine z_irem (a := i) hx hb (by omega) dX0_leastBetween_30 ?_
        refine z_if_ne (tgt := 89) hx hb dX0_leastBetween_31 (by decide) (⟨by omega, by omega⟩) (fun hc2 => ?_) (fun hc2 => ?_)
        · exact k89
        · refine lv_iload hx hb dX0_leastBetween_34 (lv_at hl 6 rfl) ?_
          refine lv_bipush (v := zI 8) hx hb dX0_leastBetween_36 (by decide) ?_
          refine z_iadd hx hb dX0_leastBetween_38 ?_
          refine lv_iload_n hx hb dX0_leastBetween_39 rfl (lv_at hl 3 rfl) ?_
          refine z_icmp_gt (tgt := 89) hx hb dX0_leastBetween_40 (by decide) (⟨by omega, by omega⟩) (⟨by omega, by omega⟩) (fun hc3 => ?_) (fun hc3 => ?_)
          · exact k89
          · have e8 : 8 * (i / 8) = i := by omega
            have hbk := hB (i / 8) (i + 8) (by omega) (by omega) (by omega) (by omega)
            unfold tc_blk at hbk
            rw [e8] at hbk
            obtain ⟨_, hri, ⟨u, hu, hu1, y, hy1, hy2, hy3⟩, _⟩ := hbk
            have ly1 := tc_lev_le b y
            have ly2 := tc_lev_ge b y
            refine lv_iload_n hx hb dX0_leastBetween_43 rfl (lv_at hl 4 rfl) ?_
            refine lv_aload_n hx hb dX0_leastBetween_44 rfl (lv_at hl 1 rfl) ?_
            refine va_get (D := D) (ci := 0) (v := .ref (A 3)) (C := RX0) (T := TX0) (N := 6) hx hb hts in_X0 hown hK hP 0 rfl rfl 4 (by decide) (hts _ q30) (fun _ h9 => h9) rfl dX0_leastBetween_45 ?_
            refine lv_iload hx hb dX0_leastBetween_48 (lv_at hl 0 rfl) ?_
            refine z_bald hx hb hK hP 3 2 rfl rfl (k := i / 8) (by omega) (by decide) (v := (zI (u))) (hu) dX0_leastBetween_50 ?_
            refine z_iadd hx hb dX0_leastBetween_51 ?_
            refine z_set (y := tc_lev b y) (by omega) ?_
            refine lv_iload hx hb dX0_leastBetween_52 (lv_at hl 5 rfl) ?_
            suffices kM : ro_G p l e s m below meth c yX0_leastBetween cX0_leastBetween 7 (some .int) rmX0_leastBetween [.ref (A 0), .int (zI ((P : Int))), .int (zI ((T : Int)))] (fun r => ∃ x : Int, r = zI x ∧ zs x ∧ (∀ j, P < j → j ≤ T → x ≤ tc_lev b j) ∧ (x = 64 ∨ ∃ j, P < j ∧ j ≤ T ∧ x = tc_lev b j)) (F0 m 71 ls [.int (zI (min (tc_lev b y) x))]) by
              refine z_icmp_ge (tgt := 69) hx hb dX0_leastBetween_54 (by decide) (⟨by omega, by omega⟩) (⟨by omega, by omega⟩) (fun hc4 => ?_) (fun hc4 => ?_)
              · refine lv_iload hx hb dX0_leastBetween_69 (lv_at hl 5 rfl) ?_
                exact z_set (by omega) kM
              · refine lv_iload_n hx hb dX0_leastBetween_57 rfl (lv_at hl 4 rfl) ?_
                refine lv_aload_n hx hb dX0_leastBetween_58 rfl (lv_at hl 1 rfl) ?_
                refine va_get (D := D) (ci := 0) (v := .ref (A 3)) (C := RX0) (T := TX0) (N := 6) hx hb hts in_X0 hown hK hP 0 rfl rfl 4 (by decide) (hts _ q30) (fun _ h9 => h9) rfl dX0_leastBetween_59 ?_
                refine lv_iload hx hb dX0_leastBetween_62 (lv_at hl 0 rfl) ?_
                refine z_bald hx hb hK hP 3 2 rfl rfl (k := i / 8) (by omega) (by decide) (v := (zI (u))) (hu) dX0_leastBetween_64 ?_
                refine z_iadd hx hb dX0_leastBetween_65 ?_
                refine lv_goto (tgt := 71) hx hb dX0_leastBetween_66 (by decide) ?_
                exact z_set (by omega) kM
            refine lv_istore (lv' := [(4, .int (zI (min (tc_lev b y) x))), (6, .int (zI (((i / 8 : Nat) : Int)))), (0, .ref (A 0)), (1, .int (zI ((P : Int)))), (2, .int (zI ((T : Int)))), (3, .int (zI (tc_lev b i))), (5, .int (zI ((i : Int))))]) hx hb dX0_leastBetween_71 hl (by decide) rfl (fun ls hl => ?_)
            refine lv_iload_n hx hb dX0_leastBetween_73 rfl (lv_at hl 5 rfl) ?_
            refine lv_aload_n hx hb dX0_leastBetween_74 rfl (lv_at hl 2 rfl) ?_
            refine va_get (D := D) (ci := 0) (v := .ref (A 2)) (C := RX0) (T := TX0) (N := 6) hx hb hts in_X0 hown hK hP 0 rfl rfl 3 (by decide) (hts _ q29) (fun _ h9 => h9) rfl dX0_leastBetween_75 ?_
            refine lv_iload hx hb dX0_leastBetween_78 (lv_at hl 1 rfl) ?_
            refine z_bald hx hb hK hP 2 1 rfl rfl (k := i / 8) (by omega) (by decide) (v := (zI (tc_lev b (i + 8) - tc_lev b i))) (hri) dX0_leastBetween_80 ?_
            refine z_iadd hx hb dX0_leastBetween_81 ?_
            refine z_set (y := tc_lev b (i + 8)) (by omega) ?_
            refine lv_istore_n (lv' := [(3, .int (zI (tc_lev b (i + 8)))), (4, .int (zI (min (tc_lev b y) x))), (6, .int (zI (((i / 8 : Nat) : Int)))), (0, .ref (A 0)), (1, .int (zI ((P : Int)))), (2, .int (zI ((T : Int)))), (5, .int (zI ((i : Int))))]) hx hb dX0_leastBetween_82 rfl hl (by decide) rfl (fun ls hl => ?_)
            refine lv_iinc (v := zI (((i + 8 : Nat) : Int))) (lv' := [(5, .int (zI (((i + 8 : Nat) : Int)))), (3, .int (zI (tc_lev b (i + 8)))), (4, .int (zI (min (tc_lev b y) x))), (6, .int (zI (((i / 8 : Nat) : Int)))), (0, .ref (A 0)), (1, .int (zI ((P : Int)))), (2, .int (zI ((T : Int))))]) hx hb dX0_leastBetween_83 hl (k := 6) rfl (zI_inc (by omega)) (by decide) rfl (fun ls hl => ?_)
            refine lv_goto (tgt := 123) hx hb dX0_leastBetween_86 (by decide) ?_
            refine lv_goto (tgt := 13) hx hb dX0_leastBetween_123 (by decide) ?_
            refine ih (i + 8) (min (tc_lev b y) x) (by omega) (by omega) (by omega) ⟨by omega, by omega⟩ (fun j a c => ?_) ?_ ls (lv_sub hl [4, 5, 6, 1, 2, 0] rfl)
            · rcases Nat.lt_or_ge i j with ej | ej
              · have := hu1 j ej c; omega
              · have := h5 j a ej; omega
            · by_cases ex : tc_lev b y ≤ x
              · exact Or.inr ⟨y, by omega, hy2, by omega⟩
              · rcases h6 with h6 | ⟨j, a, c, e⟩
                · exact Or.inl (by omega)
                · exact Or.inr ⟨j, a, by omega, by omega⟩
  refine lv_aload_n hx hb dX0_leastBetween_0 rfl (lv_at hl 0 rfl) ?_
  refine lv_iload_n hx hb dX0_leastBetween_1 rfl (lv_at hl 1 rfl) ?_
  refine ro_calle (n := 1) hx hb hml hown hts (kX_levelBefore l D A d hI P (by omega)) (lw_V q74 q76 qs3 q16 q77) (by decide +kernel) ⟨Nat.le_of_ble_eq_true rfl, Nat.le_of_ble_eq_true rfl⟩ ⟨rfl, rfl⟩ hK hP rfl rfl rfl hl rfl (Nat.le_of_ble_eq_true rfl) dX0_leastBetween_2 ⟨Nat.le_of_ble_eq_true rfl, Nat.le_of_ble_eq_true rfl⟩ ?_
  refine lv_istore_n (lv' := [(3, .int (zI (tc_lev b P))), (0, .ref (A 0)), (1, .int (zI ((P : Int)))), (2, .int (zI ((T : Int))))]) hx hb dX0_leastBetween_5 rfl hl (by decide) rfl (fun ls hl => ?_)
  refine lv_bipush (v := zI 64) hx hb dX0_leastBetween_6 (by decide) ?_
  refine lv_istore (lv' := [(4, .int (zI (64))), (3, .int (zI (tc_lev b P))), (0, .ref (A 0)), (1, .int (zI ((P : Int)))), (2, .int (zI ((T : Int))))]) hx hb dX0_leastBetween_8 hl (by decide) rfl (fun ls hl => ?_)
  refine lv_iload_n hx hb dX0_leastBetween_10 rfl (lv_at hl 3 rfl) ?_
  refine lv_istore (lv' := [(5, .int (zI ((P : Int)))), (4, .int (zI (64))), (3, .int (zI (tc_lev b P))), (0, .ref (A 0)), (1, .int (zI ((P : Int)))), (2, .int (zI ((T : Int))))]) hx hb dX0_leastBetween_11 hl (by decide) rfl (fun ls hl => ?_)
  exact loop (T + 1) P 64 (by omega) (by omega) hP0 ⟨by omega, by omega⟩ (fun j a c => by omega) (Or.inl rfl) ls (lv_sub hl [3, 4, 5, 2, 1, 0] rfl)
abbrev rmX0_endOf : Room := { frames := 4, cells := 0, slots := 0, locals := 93 }
set_option maxHeartbeats 4000000 in
set_option maxRecDepth 100000 in
theorem kX_endOf (l : Launch) (D : va_G) (A : Nat → Nat) (d : Nat → ClassId) {w : Int64} {F : Nat → Nat → Int32} {n : Nat} {b : Nat → Bool} (hI : tc_xI n b w F) (p0 : Nat) (hp1 : p0 < n) (hp2 : b p0 = true) : ro_Met l yX0_endOf cX0_endOf 3 (some .int) rmX0_endOf D (tc_xW A w (zI (n : Int)) d F) (tc_xT d) [.ref (A 0), .int (zI ((p0 : Int)))] (fun r => ∃ e : Nat, r = zI (e : Int) ∧ tc_end n b p0 e) := by
  refine ro_of (by decide) (Nat.le_of_ble_eq_true rfl) ?_
  intro p e s m below meth c ls C hl
  obtain ⟨hx, hb, hr, hml, hown, hts, hlocks, hP, hK⟩ := C
  have hown : s.vm.findClass RX0 = some m.cls := hown
  have hl : lv_has ls 3 [(0, .ref (A 0)), (1, .int (zI ((p0 : Int))))] := hl
  obtain ⟨hn, hok, hw, hB⟩ := id hI
  refine lv_aload_n hx hb dX0_endOf_0 rfl (lv_at hl 0 rfl) ?_
  refine lv_iload_n hx hb dX0_endOf_1 rfl (lv_at hl 1 rfl) ?_
  refine ro_calle (n := 1) hx hb hml hown hts (kX_levelBefore l D A d hI p0 (by omega)) (lw_V q74 q76 qs3 q16 q77) (by decide +kernel) ⟨Nat.le_of_ble_eq_true rfl, Nat.le_of_ble_eq_true rfl⟩ ⟨rfl, rfl⟩ hK hP rfl rfl rfl hl rfl (Nat.le_of_ble_eq_true rfl) dX0_endOf_2 ⟨Nat.le_of_ble_eq_true rfl, Nat.le_of_ble_eq_true rfl⟩ ?_
  refine lv_istore_n (lv' := [(2, .int (zI (tc_lev b p0))), (0, .ref (A 0)), (1, .int (zI ((p0 : Int))))]) hx hb dX0_endOf_5 rfl hl (by decide) rfl (fun ls hl => ?_)
  refine lv_aload_n hx hb dX0_endOf_6 rfl (lv_at hl 1 rfl) ?_
  refine lv_iload_n hx hb dX0_endOf_7 rfl (lv_at hl 2 rfl) ?_
  refine lv_iload_n hx hb dX0_endOf_8 rfl (lv_at hl 0 rfl) ?_
  refine ro_call (n := 2) hx hb hml hown hts (kX_forwardTo l D A d hI p0 (by omega) (tc_lev b p0) (tc_zlev (by omega))) (lw_V q113 q115 qs8 q16 q116) (by decide +kernel) ⟨Nat.le_of_ble_eq_true rfl, Nat.le_of_ble_eq_true rfl⟩ ⟨rfl, rfl⟩ hK hP rfl rfl rfl hl rfl (Nat.le_of_ble_eq_true rfl) dX0_endOf_9 ⟨Nat.le_of_ble_eq_true rfl, Nat.le_of_ble_eq_true rfl⟩ (fun r9 hE => ?_)
  obtain ⟨e0, rfl, he1, he2, he3, he4⟩ := hE
  exact ro_ret hx hb hr hlocks (⟨e0, rfl, tc_end_of hp1 hp2 he1 he2 he3 he4⟩) dX0_endOf_12
abbrev rmX0_nodeAt : Room := { frames := 2, cells := 0, slots := 0, locals := 45 }
set_option maxHeartbeats 4000000 in
set_option maxRecDepth 100000 in
theorem kX_nodeAt (l : Launch) (D : va_G) (A : Nat → Nat) (d : Nat → ClassId) {w : Int64} {F : Nat → Nat → Int32} {n : Nat} {b : Nat → Bool} (hI : tc_xI n b w F) (P : Nat) (hP0 : P ≤ n + 1) : ro_Met l yX0_nodeAt cX0_nodeAt 2 (some .int) rmX0_nodeAt D (tc_xW A w (zI (n : Int)) d F) (tc_xT d) [.ref (A 0), .int (zI ((P : Int)))] (fun r => ∃ z : Int, r = zI z ∧ ((P < n ∧ b P = true ∧ z = (tc_cnt b P : Int)) ∨ (¬ (P < n ∧ b P = true) ∧ z = -1))) := by
  refine ro_of (by decide) (Nat.le_of_ble_eq_true rfl) ?_
  intro p e s m below meth c ls C hl
  obtain ⟨hx, hb, hr, hml, hown, hts, hlocks, hP, hK⟩ := C
  have hown : s.vm.findClass RX0 = some m.cls := hown
  have hl : lv_has ls 2 [(0, .ref (A 0)), (1, .int (zI ((P : Int))))] := hl
  obtain ⟨hn, hok, hw, hB⟩ := id hI
  refine lv_iload_n hx hb dX0_nodeAt_0 rfl (lv_at hl 1 rfl) ?_
  refine lv_aload_n hx hb dX0_nodeAt_1 rfl (lv_at hl 0 rfl) ?_
  refine va_get (D := D) (ci := 0) (v := .int (zI ((n : Int)))) (C := RX0) (T := TX0) (N := 6) hx hb hts in_X0 hown hK hP 0 rfl rfl 1 (by decide) (hts _ q27) (fun _ h9 => h9) rfl dX0_nodeAt_2 ?_
  refine z_icmp_ge (tgt := 24) hx hb dX0_nodeAt_5 (by decide) (⟨by omega, by omega⟩) (⟨by omega, by omega⟩) (fun hc => ?_) (fun hc => ?_)
  · refine lv_iconst (v := zI (-1)) hx hb dX0_nodeAt_24 rfl ?_
    exact ro_ret hx hb hr hlocks (⟨-1, rfl, Or.inr ⟨fun q => by omega, rfl⟩⟩) dX0_nodeAt_25
  · refine lv_aload_n hx hb dX0_nodeAt_8 rfl (lv_at hl 0 rfl) ?_
    refine lv_iload_n hx hb dX0_nodeAt_9 rfl (lv_at hl 1 rfl) ?_
    refine ro_call (n := 1) hx hb hml hown hts (kX_opensAt l D A d hI P (by omega)) (lw_V q54 q56 qs1 q16 q57) (by decide +kernel) ⟨Nat.le_of_ble_eq_true rfl, Nat.le_of_ble_eq_true rfl⟩ ⟨rfl, rfl⟩ hK hP rfl rfl rfl hl rfl (Nat.le_of_ble_eq_true rfl) dX0_nodeAt_10 ⟨Nat.le_of_ble_eq_true rfl, Nat.le_of_ble_eq_true rfl⟩ (fun r10 hO => ?_)
    refine t_if_eq (tgt := 24) hx hb dX0_nodeAt_13 (by decide) hO (fun hc2 => ?_) (fun hc2 => ?_)
    · refine lv_iconst (v := zI (-1)) hx hb dX0_nodeAt_24 rfl ?_
      exact ro_ret hx hb hr hlocks (⟨-1, rfl, Or.inr ⟨fun q => hc2 q.2, rfl⟩⟩) dX0_nodeAt_25
    · refine lv_aload_n hx hb dX0_nodeAt_16 rfl (lv_at hl 0 rfl) ?_
      refine lv_iload_n hx hb dX0_nodeAt_17 rfl (lv_at hl 1 rfl) ?_
      refine ro_calle (n := 1) hx hb hml hown hts (kX_opensBefore l D A d hI P (by omega)) (lw_V q62 q64 qs2 q16 q65) (by decide +kernel) ⟨Nat.le_of_ble_eq_true rfl, Nat.le_of_ble_eq_true rfl⟩ ⟨rfl, rfl⟩ hK hP rfl rfl rfl hl rfl (Nat.le_of_ble_eq_true rfl) dX0_nodeAt_18 ⟨Nat.le_of_ble_eq_true rfl, Nat.le_of_ble_eq_true rfl⟩ ?_
      refine lv_goto (tgt := 25) hx hb dX0_nodeAt_21 (by decide) ?_
      exact ro_ret hx hb hr hlocks (⟨_, rfl, Or.inl ⟨by omega, hc2, rfl⟩⟩) dX0_nodeAt_25
end
section
/-! plain laws behind the questions of TreeCodes -/
theorem tc_S_at {n : Nat} {b : Nat → Bool} (hn : n ≤ 64) {R : Nat → Int → Prop} {q : Nat} (hq : q < n) (hb : b q = true) {r : Int32} (h : tc_S n b R (zI (tc_cnt b q : Int)) r) : ∃ z, R q z ∧ r = zI z := by
  rcases h with ⟨h1, _⟩ | ⟨p, z, h1, h2, h3⟩
  · exact absurd ⟨q, hq, hb, rfl⟩ h1
  · have e := tc_isN_uniq hn h1 ⟨hq, hb, rfl⟩
    subst e
    exact ⟨z, h2, h3⟩
theorem tc_num_place {P : Nat → Prop} {n v : Nat} (h : v < tc_num P n) : ∃ q, q < n ∧ P q ∧ tc_num P q = v := by
  induction n with
  | zero => exact absurd h (Nat.not_lt_zero _)
  | succ k ih =>
    by_cases q : v < tc_num P k
    · obtain ⟨r, h1, h2, h3⟩ := ih q
      exact ⟨r, by omega, h2, h3⟩
    · by_cases hp : P k
      · rw [tc_num_t hp] at h
        exact ⟨k, by omega, hp, by omega⟩
      · rw [tc_num_f hp] at h; omega
theorem tc_child_none {n : Nat} {b : Nat → Bool} (hn : n ≤ 64) {p : Nat} {g : Int} (hg : zs g) (h : g < 0 ∨ (tc_num (tc_kid b p) n : Int) ≤ g) : tc_Rchild n b (zI g) p (-1) := by
  refine Or.inr ⟨fun q h1 h2 h3 => ?_, rfl⟩
  have c := tc_num_le (tc_kid b p) q
  have e := (zI_eq hg (b := (tc_num (tc_kid b p) q : Int)) ⟨by omega, by omega⟩).mp h3
  have l := tc_num_lt h2 h1
  omega
theorem tc_child_0 {n : Nat} {b : Nat → Bool} (hn : n ≤ 64) {p : Nat} {z : Int} (h : tc_Rchild n b (zI 0) p z) : (z = -1 ∧ tc_num (tc_kid b p) n = 0) ∨ ∃ q, q < n ∧ tc_kid b p q ∧ tc_num (tc_kid b p) q = 0 ∧ z = (tc_cnt b q : Int) := by
  rcases h with ⟨q, h1, h2, h3, h4⟩ | ⟨h1, h2⟩
  · have c := tc_num_le (tc_kid b p) q
    have e := (zI_eq zs_0 (b := (tc_num (tc_kid b p) q : Int)) ⟨by omega, by omega⟩).mp h3
    exact Or.inr ⟨q, h1, h2, by omega, h4⟩
  · refine Or.inl ⟨h2, ?_⟩
    rcases Nat.eq_zero_or_pos (tc_num (tc_kid b p) n) with e | e
    · exact e
    · obtain ⟨q, g1, g2, g3⟩ := tc_num_place e
      exact absurd (by rw [g3]; rfl) (h1 q g1 g2)
theorem tc_height_of {n : Nat} {b : Nat → Bool} {p e : Nat} (hp : b p = true) (he : tc_end n b p e) {x : Int} (h1 : ∀ j, p < j → j ≤ e → tc_lev b j ≤ x) (h2 : x = tc_lev b p ∨ ∃ j, p < j ∧ j ≤ e ∧ x = tc_lev b j) : tc_Rheight n b p (x - tc_lev b p - 1) := by
  obtain ⟨e1, e2, e3, e4⟩ := id he
  have s0 := tc_lev_t hp
  have s1 := h1 (p + 1) (by omega) (by omega)
  constructor
  · rcases h2 with h2 | ⟨j, a, c, d⟩
    · omega
    · have st := tc_lev_1 b (j - 1)
      rw [show j - 1 + 1 = j by omega] at st
      have hb : b (j - 1) = true ∧ tc_lev b j = tc_lev b (j - 1) + 1 := by
        rcases st with s | ⟨s, t⟩
        · exact s
        · exfalso
          by_cases ej : j - 1 = p
          · rw [ej, hp] at s; cases s
          · have := h1 (j - 1) (by omega) (by omega); omega
      refine ⟨j - 1, by omega, hb.1, (tc_anc_end he (by omega) hb.1).mpr ⟨by omega, by omega⟩, by omega⟩
  · intro q a c d
    obtain ⟨u, v⟩ := (tc_anc_end he a c).mp d
    have := h1 (q + 1) (by omega) (by omega)
    have := tc_lev_t c
    omega
theorem tc_meet_comm {b : Nat → Bool} {p q : Nat} {z : Int} (h : tc_Rmeet b p q z) : tc_Rmeet b q p z := by
  rcases h with ⟨c, h1, h2, h3, h4, h5⟩ | ⟨h1, h2⟩
  · exact Or.inl ⟨c, h1, h3, h2, fun i a u v => h4 i a v u, h5⟩
  · exact Or.inr ⟨fun i a u v => h1 i a v u, h2⟩
theorem tc_meet_1 {b : Nat → Bool} {f s : Nat} {x : Int} (hfs : f ≤ s) (hb : b f = true) (h1 : ∀ j, f < j → j ≤ s → x ≤ tc_lev b j) (h : tc_lev b f < x ∨ f = s) : tc_Rmeet b f s (tc_cnt b f : Int) := by
  refine Or.inl ⟨f, hb, tc_anc_refl b f, ⟨hfs, fun i u v => ?_⟩, fun i _ u _ => tc_anc_lev u, rfl⟩
  have := h1 i u v
  rcases h with h | h <;> omega
theorem tc_meet_2 {n : Nat} {b : Nat → Bool} (hok : tc_ok n b) {f s : Nat} {x z : Int} (hfs : f < s) (hs : s < n) (hn : n ≤ 64) (hx : zs (x - 1)) (hle : x ≤ tc_lev b f) (h1 : ∀ j, f < j → j ≤ s → x ≤ tc_lev b j) (h2 : x = 64 ∨ ∃ j, f < j ∧ j ≤ s ∧ x = tc_lev b j) (hR : tc_Rabove b (zI (x - 1)) f z) : tc_Rmeet b f s z := by
  have lf := tc_lev_le b f
  have top : ∀ i, tc_anc b i f → tc_anc b i s → tc_lev b i ≤ x - 1 := fun i u v => by
    rcases h2 with h2 | ⟨j, a, c, d⟩
    · omega
    · have l := u.1
      have := v.2 j (by omega) c
      omega
  rcases hR with ⟨q, r1, r2, r3, r4⟩ | ⟨r1, r2⟩
  · have l := r2.1
    have e := (zI_eq hx (tc_zlev (b := b) (i := q) (by omega))).mp r3
    refine Or.inl ⟨q, r1, r2, ⟨by omega, fun i u v => ?_⟩, fun i _ u v => by have := top i u v; omega, r4⟩
    rcases Nat.lt_or_ge f i with w | w
    · have := h1 i w v; omega
    · exact r2.2 i u w
  · refine Or.inr ⟨fun i w u v => ?_, r2⟩
    have t := top i u v
    have l := u.1
    have l0 := hok i (by omega)
    obtain ⟨q, q1, q2, q3, q4⟩ := tc_bk_ex (b := b) (g := x - 1) (by omega) f (by omega)
    exact r1 q q2 ⟨by omega, fun k a c => by rw [q3]; exact q4 k a c⟩ (by rw [q3])
end
section
abbrev rmX0_parent : Room := { frames := 4, cells := 0, slots := 0, locals := 93 }
set_option maxHeartbeats 4000000 in
set_option maxRecDepth 100000 in
theorem kX_parent (l : Launch) (D : va_G) (A : Nat → Nat) (d : Nat → ClassId) {w : Int64} {F : Nat → Nat → Int32} {n : Nat} {b : Nat → Bool} (hI : tc_xI n b w F) (z : Int) (hz : zs z) : ro_Met l yX0_parent cX0_parent 5 (some .int) rmX0_parent D (tc_xW A w (zI (n : Int)) d F) (tc_xT d) [.ref (A 0), .int (zI (z))] (fun r => tc_S n b (tc_tp b) (zI z) r) := by
  refine ro_of (by decide) (Nat.le_of_ble_eq_true rfl) ?_
  intro p e s m below meth c ls C hl
  obtain ⟨hx, hb, hr, hml, hown, hts, hlocks, hP, hK⟩ := C
  have hown : s.vm.findClass RX0 = some m.cls := hown
  have hl : lv_has ls 5 [(0, .ref (A 0)), (1, .int (zI (z)))] := hl
  obtain ⟨hn, hok, hw, hB⟩ := id hI
  refine lv_aload_n hx hb dX0_parent_0 rfl (lv_at hl 0 rfl) ?_
  refine lv_iload_n hx hb dX0_parent_1 rfl (lv_at hl 1 rfl) ?_
  refine ro_call (n := 1) hx hb hml hown hts (kX_isNode l D A d hI z hz) (lw_V q93 q95 qs5 q16 q96) (by decide +kernel) ⟨Nat.le_of_ble_eq_true rfl, Nat.le_of_ble_eq_true rfl⟩ ⟨rfl, rfl⟩ hK hP rfl rfl rfl hl rfl (Nat.le_of_ble_eq_true rfl) dX0_parent_2 ⟨Nat.le_of_ble_eq_true rfl, Nat.le_of_ble_eq_true rfl⟩ (fun r2 hN => ?_)
  refine t_if_ne (tgt := 10) hx hb dX0_parent_5 (by decide) hN (fun hc => ?_) (fun hc => ?_)
  · obtain ⟨p0, hp1, hp2, hz0⟩ := tc_nd_ob hn hz hc
    subst hz0
    have hN0 : tc_isN n b p0 (zI (tc_cnt b p0 : Int)) := ⟨hp1, hp2, rfl⟩
    refine lv_aload_n hx hb dX0_parent_10 rfl (lv_at hl 0 rfl) ?_
    refine lv_iload_n hx hb dX0_parent_11 rfl (lv_at hl 1 rfl) ?_
    refine ro_calle (n := 1) hx hb hml hown hts (kX_placeOf l D A d hI p0 hp1 hp2) (lw_V q97 q99 qs6 q16 q100) (by decide +kernel) ⟨Nat.le_of_ble_eq_true rfl, Nat.le_of_ble_eq_true rfl⟩ ⟨rfl, rfl⟩ hK hP rfl rfl rfl hl rfl (Nat.le_of_ble_eq_true rfl) dX0_parent_12 ⟨Nat.le_of_ble_eq_true rfl, Nat.le_of_ble_eq_true rfl⟩ ?_
    refine lv_istore_n (lv' := [(2, .int (zI ((p0 : Int)))), (0, .ref (A 0)), (1, .int (zI ((tc_cnt b p0 : Int))))]) hx hb dX0_parent_15 rfl hl (by decide) rfl (fun ls hl => ?_)
    refine lv_aload_n hx hb dX0_parent_16 rfl (lv_at hl 1 rfl) ?_
    refine lv_iload_n hx hb dX0_parent_17 rfl (lv_at hl 0 rfl) ?_
    refine ro_calle (n := 1) hx hb hml hown hts (kX_levelBefore l D A d hI p0 (by omega)) (lw_V q74 q76 qs3 q16 q77) (by decide +kernel) ⟨Nat.le_of_ble_eq_true rfl, Nat.le_of_ble_eq_true rfl⟩ ⟨rfl, rfl⟩ hK hP rfl rfl rfl hl rfl (Nat.le_of_ble_eq_true rfl) dX0_parent_18 ⟨Nat.le_of_ble_eq_true rfl, Nat.le_of_ble_eq_true rfl⟩ ?_
    have l0 := hok p0 (by omega)
    have l1 := tc_lev_le b p0
    refine lv_istore_n (lv' := [(3, .int (zI (tc_lev b p0))), (2, .int (zI ((p0 : Int)))), (0, .ref (A 0)), (1, .int (zI ((tc_cnt b p0 : Int))))]) hx hb dX0_parent_21 rfl hl (by decide) rfl (fun ls hl => ?_)
    refine lv_iload_n hx hb dX0_parent_22 rfl (lv_at hl 0 rfl) ?_
    refine z_if_ne (tgt := 28) hx hb dX0_parent_23 (by decide) (⟨by omega, by omega⟩) (fun hc2 => ?_) (fun hc2 => ?_)
    · refine lv_aload_n hx hb dX0_parent_28 rfl (lv_at hl 2 rfl) ?_
      refine lv_iload_n hx hb dX0_parent_29 rfl (lv_at hl 1 rfl) ?_
      refine lv_iload_n hx hb dX0_parent_30 rfl (lv_at hl 0 rfl) ?_
      refine lv_iconst (v := zI 1) hx hb dX0_parent_31 rfl ?_
      refine z_isub hx hb dX0_parent_32 ?_
      refine ro_call (n := 2) hx hb hml hown hts (kX_backTo l D A d hI p0 (by omega) (tc_lev b p0 - 1) (by omega) (by omega)) (lw_V q78 q80 qs4 q16 q81) (by decide +kernel) ⟨Nat.le_of_ble_eq_true rfl, Nat.le_of_ble_eq_true rfl⟩ ⟨rfl, rfl⟩ hK hP rfl rfl rfl hl rfl (Nat.le_of_ble_eq_true rfl) dX0_parent_33 ⟨Nat.le_of_ble_eq_true rfl, Nat.le_of_ble_eq_true rfl⟩ (fun r33 hQ => ?_)
      obtain ⟨q, rfl, hq⟩ := hQ
      refine lv_istore (lv' := [(4, .int (zI ((q : Int)))), (3, .int (zI (tc_lev b p0))), (2, .int (zI ((p0 : Int)))), (0, .ref (A 0)), (1, .int (zI ((tc_cnt b p0 : Int))))]) hx hb dX0_parent_36 hl (by decide) rfl (fun ls hl => ?_)
      refine lv_aload_n hx hb dX0_parent_38 rfl (lv_at hl 3 rfl) ?_
      refine lv_iload hx hb dX0_parent_39 (lv_at hl 0 rfl) ?_
      refine ro_calle (n := 1) hx hb hml hown hts (kX_opensBefore l D A d hI q (by have := hq.1; omega)) (lw_V q62 q64 qs2 q16 q65) (by decide +kernel) ⟨Nat.le_of_ble_eq_true rfl, Nat.le_of_ble_eq_true rfl⟩ ⟨rfl, rfl⟩ hK hP rfl rfl rfl hl rfl (Nat.le_of_ble_eq_true rfl) dX0_parent_41 ⟨Nat.le_of_ble_eq_true rfl, Nat.le_of_ble_eq_true rfl⟩ ?_
      exact ro_ret hx hb hr hlocks (Or.inr ⟨p0, _, hN0, Or.inr ⟨q, tc_bk_par hq, rfl⟩, rfl⟩) dX0_parent_44
    · refine lv_iconst (v := zI (-1)) hx hb dX0_parent_26 rfl ?_
      exact ro_ret hx hb hr hlocks (Or.inr ⟨p0, -1, hN0, Or.inl ⟨hc2, rfl⟩, rfl⟩) dX0_parent_27
  · refine lv_iconst (v := zI (-1)) hx hb dX0_parent_8 rfl ?_
    exact ro_ret hx hb hr hlocks (Or.inl ⟨hc, rfl⟩) dX0_parent_9
abbrev rmX0_depth : Room := { frames := 4, cells := 0, slots := 0, locals := 86 }
set_option maxHeartbeats 4000000 in
set_option maxRecDepth 100000 in
theorem kX_depth (l : Launch) (D : va_G) (A : Nat → Nat) (d : Nat → ClassId) {w : Int64} {F : Nat → Nat → Int32} {n : Nat} {b : Nat → Bool} (hI : tc_xI n b w F) (z : Int) (hz : zs z) : ro_Met l yX0_depth cX0_depth 3 (some .int) rmX0_depth D (tc_xW A w (zI (n : Int)) d F) (tc_xT d) [.ref (A 0), .int (zI (z))] (fun r => tc_S n b (fun p x => x = tc_lev b p) (zI z) r) := by
  refine ro_of (by decide) (Nat.le_of_ble_eq_true rfl) ?_
  intro p e s m below meth c ls C hl
  obtain ⟨hx, hb, hr, hml, hown, hts, hlocks, hP, hK⟩ := C
  have hown : s.vm.findClass RX0 = some m.cls := hown
  have hl : lv_has ls 3 [(0, .ref (A 0)), (1, .int (zI (z)))] := hl
  obtain ⟨hn, hok, hw, hB⟩ := id hI
  refine lv_aload_n hx hb dX0_depth_0 rfl (lv_at hl 0 rfl) ?_
  refine lv_iload_n hx hb dX0_depth_1 rfl (lv_at hl 1 rfl) ?_
  refine ro_call (n := 1) hx hb hml hown hts (kX_isNode l D A d hI z hz) (lw_V q93 q95 qs5 q16 q96) (by decide +kernel) ⟨Nat.le_of_ble_eq_true rfl, Nat.le_of_ble_eq_true rfl⟩ ⟨rfl, rfl⟩ hK hP rfl rfl rfl hl rfl (Nat.le_of_ble_eq_true rfl) dX0_depth_2 ⟨Nat.le_of_ble_eq_true rfl, Nat.le_of_ble_eq_true rfl⟩ (fun r2 hN => ?_)
  refine t_if_ne (tgt := 10) hx hb dX0_depth_5 (by decide) hN (fun hc => ?_) (fun hc => ?_)
  · obtain ⟨p0, hp1, hp2, hz0⟩ := tc_nd_ob hn hz hc
    subst hz0
    have hN0 : tc_isN n b p0 (zI (tc_cnt b p0 : Int)) := ⟨hp1, hp2, rfl⟩
    refine lv_aload_n hx hb dX0_depth_10 rfl (lv_at hl 0 rfl) ?_
    refine lv_iload_n hx hb dX0_depth_11 rfl (lv_at hl 1 rfl) ?_
    refine ro_calle (n := 1) hx hb hml hown hts (kX_placeOf l D A d hI p0 hp1 hp2) (lw_V q97 q99 qs6 q16 q100) (by decide +kernel) ⟨Nat.le_of_ble_eq_true rfl, Nat.le_of_ble_eq_true rfl⟩ ⟨rfl, rfl⟩ hK hP rfl rfl rfl hl rfl (Nat.le_of_ble_eq_true rfl) dX0_depth_12 ⟨Nat.le_of_ble_eq_true rfl, Nat.le_of_ble_eq_true rfl⟩ ?_
    refine lv_istore_n (lv' := [(2, .int (zI ((p0 : Int)))), (0, .ref (A 0)), (1, .int (zI ((tc_cnt b p0 : Int))))]) hx hb dX0_depth_15 rfl hl (by decide) rfl (fun ls hl => ?_)
    refine lv_aload_n hx hb dX0_depth_16 rfl (lv_at hl 1 rfl) ?_
    refine lv_iload_n hx hb dX0_depth_17 rfl (lv_at hl 0 rfl) ?_
    refine ro_calle (n := 1) hx hb hml hown hts (kX_levelBefore l D A d hI p0 (by omega)) (lw_V q74 q76 qs3 q16 q77) (by decide +kernel) ⟨Nat.le_of_ble_eq_true rfl, Nat.le_of_ble_eq_true rfl⟩ ⟨rfl, rfl⟩ hK hP rfl rfl rfl hl rfl (Nat.le_of_ble_eq_true rfl) dX0_depth_18 ⟨Nat.le_of_ble_eq_true rfl, Nat.le_of_ble_eq_true rfl⟩ ?_
    exact ro_ret hx hb hr hlocks (Or.inr ⟨p0, _, hN0, rfl, rfl⟩) dX0_depth_21
  · refine lv_iconst (v := zI (-1)) hx hb dX0_depth_8 rfl ?_
    exact ro_ret hx hb hr hlocks (Or.inl ⟨hc, rfl⟩) dX0_depth_9
abbrev rmX0_size : Room := { frames := 5, cells := 0, slots := 0, locals := 115 }
set_option maxHeartbeats 4000000 in
set_option maxRecDepth 100000 in
theorem kX_size (l : Launch) (D : va_G) (A : Nat → Nat) (d : Nat → ClassId) {w : Int64} {F : Nat → Nat → Int32} {n : Nat} {b : Nat → Bool} (hI : tc_xI n b w F) (z : Int) (hz : zs z) : ro_Met l yX0_size cX0_size 4 (some .int) rmX0_size D (tc_xW A w (zI (n : Int)) d F) (tc_xT d) [.ref (A 0), .int (zI (z))] (fun r => tc_S n b (tc_Rsize n b) (zI z) r) := by
  refine ro_of (by decide) (Nat.le_of_ble_eq_true rfl) ?_
  intro p e s m below meth c ls C hl
  obtain ⟨hx, hb, hr, hml, hown, hts, hlocks, hP, hK⟩ := C
  have hown : s.vm.findClass RX0 = some m.cls := hown
  have hl : lv_has ls 4 [(0, .ref (A 0)), (1, .int (zI (z)))] := hl
  obtain ⟨hn, hok, hw, hB⟩ := id hI
  refine lv_aload_n hx hb dX0_size_0 rfl (lv_at hl 0 rfl) ?_
  refine lv_iload_n hx hb dX0_size_1 rfl (lv_at hl 1 rfl) ?_
  refine ro_call (n := 1) hx hb hml hown hts (kX_isNode l D A d hI z hz) (lw_V q93 q95 qs5 q16 q96) (by decide +kernel) ⟨Nat.le_of_ble_eq_true rfl, Nat.le_of_ble_eq_true rfl⟩ ⟨rfl, rfl⟩ hK hP rfl rfl rfl hl rfl (Nat.le_of_ble_eq_true rfl) dX0_size_2 ⟨Nat.le_of_ble_eq_true rfl, Nat.le_of_ble_eq_true rfl⟩ (fun r2 hN => ?_)
  refine t_if_ne (tgt := 10) hx hb dX0_size_5 (by decide) hN (fun hc => ?_) (fun hc => ?_)
  · obtain ⟨p0, hp1, hp2, hz0⟩ := tc_nd_ob hn hz hc
    subst hz0
    have hN0 : tc_isN n b p0 (zI (tc_cnt b p0 : Int)) := ⟨hp1, hp2, rfl⟩
    refine lv_aload_n hx hb dX0_size_10 rfl (lv_at hl 0 rfl) ?_
    refine lv_iload_n hx hb dX0_size_11 rfl (lv_at hl 1 rfl) ?_
    refine ro_calle (n := 1) hx hb hml hown hts (kX_placeOf l D A d hI p0 hp1 hp2) (lw_V q97 q99 qs6 q16 q100) (by decide +kernel) ⟨Nat.le_of_ble_eq_true rfl, Nat.le_of_ble_eq_true rfl⟩ ⟨rfl, rfl⟩ hK hP rfl rfl rfl hl rfl (Nat.le_of_ble_eq_true rfl) dX0_size_12 ⟨Nat.le_of_ble_eq_true rfl, Nat.le_of_ble_eq_true rfl⟩ ?_
    refine lv_istore_n (lv' := [(2, .int (zI ((p0 : Int)))), (0, .ref (A 0)), (1, .int (zI ((tc_cnt b p0 : Int))))]) hx hb dX0_size_15 rfl hl (by decide) rfl (fun ls hl => ?_)
    refine lv_aload_n hx hb dX0_size_16 rfl (lv_at hl 1 rfl) ?_
    refine lv_iload_n hx hb dX0_size_17 rfl (lv_at hl 0 rfl) ?_
    refine ro_call (n := 1) hx hb hml hown hts (kX_endOf l D A d hI p0 hp1 hp2) (lw_V q109 q111 qs7 q16 q112) (by decide +kernel) ⟨Nat.le_of_ble_eq_true rfl, Nat.le_of_ble_eq_true rfl⟩ ⟨rfl, rfl⟩ hK hP rfl rfl rfl hl rfl (Nat.le_of_ble_eq_true rfl) dX0_size_18 ⟨Nat.le_of_ble_eq_true rfl, Nat.le_of_ble_eq_true rfl⟩ (fun r18 hE => ?_)
    obtain ⟨e0, rfl, he⟩ := hE
    have he2 := he.2.1
    refine lv_istore_n (lv' := [(3, .int (zI ((e0 : Int)))), (2, .int (zI ((p0 : Int)))), (0, .ref (A 0)), (1, .int (zI ((tc_cnt b p0 : Int))))]) hx hb dX0_size_21 rfl hl (by decide) rfl (fun ls hl => ?_)
    refine lv_aload_n hx hb dX0_size_22 rfl (lv_at hl 2 rfl) ?_
    refine lv_iload_n hx hb dX0_size_23 rfl (lv_at hl 0 rfl) ?_
    refine ro_calle (n := 1) hx hb hml hown hts (kX_opensBefore l D A d hI e0 he2) (lw_V q62 q64 qs2 q16 q65) (by decide +kernel) ⟨Nat.le_of_ble_eq_true rfl, Nat.le_of_ble_eq_true rfl⟩ ⟨rfl, rfl⟩ hK hP rfl rfl rfl hl rfl (Nat.le_of_ble_eq_true rfl) dX0_size_24 ⟨Nat.le_of_ble_eq_true rfl, Nat.le_of_ble_eq_true rfl⟩ ?_
    refine lv_iload_n hx hb dX0_size_27 rfl (lv_at hl 3 rfl) ?_
    refine z_isub hx hb dX0_size_28 ?_
    exact ro_ret hx hb hr hlocks (Or.inr ⟨p0, _, hN0, ⟨e0, he, rfl⟩, rfl⟩) dX0_size_29
  · refine lv_iconst (v := zI (-1)) hx hb dX0_size_8 rfl ?_
    exact ro_ret hx hb hr hlocks (Or.inl ⟨hc, rfl⟩) dX0_size_9
abbrev rmX0_next : Room := { frames := 5, cells := 0, slots := 0, locals := 115 }
set_option maxHeartbeats 4000000 in
set_option maxRecDepth 100000 in
theorem kX_next (l : Launch) (D : va_G) (A : Nat → Nat) (d : Nat → ClassId) {w : Int64} {F : Nat → Nat → Int32} {n : Nat} {b : Nat → Bool} (hI : tc_xI n b w F) (z : Int) (hz : zs z) : ro_Met l yX0_next cX0_next 4 (some .int) rmX0_next D (tc_xW A w (zI (n : Int)) d F) (tc_xT d) [.ref (A 0), .int (zI (z))] (fun r => tc_S n b (tc_Rnext n b) (zI z) r) := by
  refine ro_of (by decide) (Nat.le_of_ble_eq_true rfl) ?_
  intro p e s m below meth c ls C hl
  obtain ⟨hx, hb, hr, hml, hown, hts, hlocks, hP, hK⟩ := C
  have hown : s.vm.findClass RX0 = some m.cls := hown
  have hl : lv_has ls 4 [(0, .ref (A 0)), (1, .int (zI (z)))] := hl
  obtain ⟨hn, hok, hw, hB⟩ := id hI
  refine lv_aload_n hx hb dX0_next_0 rfl (lv_at hl 0 rfl) ?_
  refine lv_iload_n hx hb dX0_next_1 rfl (lv_at hl 1 rfl) ?_
  refine ro_call (n := 1) hx hb hml hown hts (kX_isNode l D A d hI z hz) (lw_V q93 q95 qs5 q16 q96) (by decide +kernel) ⟨Nat.le_of_ble_eq_true rfl, Nat.le_of_ble_eq_true rfl⟩ ⟨rfl, rfl⟩ hK hP rfl rfl rfl hl rfl (Nat.le_of_ble_eq_true rfl) dX0_next_2 ⟨Nat.le_of_ble_eq_true rfl, Nat.le_of_ble_eq_true rfl⟩ (fun r2 hN => ?_)
  refine t_if_ne (tgt := 10) hx hb dX0_next_5 (by decide) hN (fun hc => ?_) (fun hc => ?_)
  · obtain ⟨p0, hp1, hp2, hz0⟩ := tc_nd_ob hn hz hc
    subst hz0
    have hN0 : tc_isN n b p0 (zI (tc_cnt b p0 : Int)) := ⟨hp1, hp2, rfl⟩
    refine lv_aload_n hx hb dX0_next_10 rfl (lv_at hl 0 rfl) ?_
    refine lv_iload_n hx hb dX0_next_11 rfl (lv_at hl 1 rfl) ?_
    refine ro_calle (n := 1) hx hb hml hown hts (kX_placeOf l D A d hI p0 hp1 hp2) (lw_V q97 q99 qs6 q16 q100) (by decide +kernel) ⟨Nat.le_of_ble_eq_true rfl, Nat.le_of_ble_eq_true rfl⟩ ⟨rfl, rfl⟩ hK hP rfl rfl rfl hl rfl (Nat.le_of_ble_eq_true rfl) dX0_next_12 ⟨Nat.le_of_ble_eq_true rfl, Nat.le_of_ble_eq_true rfl⟩ ?_
    refine lv_istore_n (lv' := [(2, .int (zI ((p0 : Int)))), (0, .ref (A 0)), (1, .int (zI ((tc_cnt b p0 : Int))))]) hx hb dX0_next_15 rfl hl (by decide) rfl (fun ls hl => ?_)
    refine lv_aload_n hx hb dX0_next_16 rfl (lv_at hl 1 rfl) ?_
    refine lv_iload_n hx hb dX0_next_17 rfl (lv_at hl 0 rfl) ?_
    refine ro_call (n := 1) hx hb hml hown hts (kX_endOf l D A d hI p0 hp1 hp2) (lw_V q109 q111 qs7 q16 q112) (by decide +kernel) ⟨Nat.le_of_ble_eq_true rfl, Nat.le_of_ble_eq_true rfl⟩ ⟨rfl, rfl⟩ hK hP rfl rfl rfl hl rfl (Nat.le_of_ble_eq_true rfl) dX0_next_18 ⟨Nat.le_of_ble_eq_true rfl, Nat.le_of_ble_eq_true rfl⟩ (fun r18 hE => ?_)
    obtain ⟨e0, rfl, he⟩ := hE
    have he2 := he.2.1
    refine lv_istore_n (lv' := [(3, .int (zI ((e0 : Int)))), (2, .int (zI ((p0 : Int)))), (0, .ref (A 0)), (1, .int (zI ((tc_cnt b p0 : Int))))]) hx hb dX0_next_21 rfl hl (by decide) rfl (fun ls hl => ?_)
    refine lv_aload_n hx hb dX0_next_22 rfl (lv_at hl 2 rfl) ?_
    refine lv_iload_n hx hb dX0_next_23 rfl (lv_at hl 0 rfl) ?_
    refine lv_iconst (v := zI 1) hx hb dX0_next_24 rfl ?_
    refine z_iadd hx hb dX0_next_25 ?_
    refine z_set (y := ((e0 + 1 : Nat) : Int)) (by omega) ?_
    refine ro_call (n := 1) hx hb hml hown hts (kX_nodeAt l D A d hI (e0 + 1) (by omega)) (lw_V q125 q127 qs9 q16 q128) (by decide +kernel) ⟨Nat.le_of_ble_eq_true rfl, Nat.le_of_ble_eq_true rfl⟩ ⟨rfl, rfl⟩ hK hP rfl rfl rfl hl rfl (Nat.le_of_ble_eq_true rfl) dX0_next_26 ⟨Nat.le_of_ble_eq_true rfl, Nat.le_of_ble_eq_true rfl⟩ (fun r26 hZ => ?_)
    obtain ⟨z1, rfl, hz1⟩ := hZ
    exact ro_ret hx hb hr hlocks (Or.inr ⟨p0, z1, hN0, tc_next_of he hz1, rfl⟩) dX0_next_29
  · refine lv_iconst (v := zI (-1)) hx hb dX0_next_8 rfl ?_
    exact ro_ret hx hb hr hlocks (Or.inl ⟨hc, rfl⟩) dX0_next_9
abbrev rmX0_previous : Room := { frames := 4, cells := 0, slots := 0, locals := 93 }
set_option maxHeartbeats 4000000 in
set_option maxRecDepth 100000 in
theorem kX_previous (l : Launch) (D : va_G) (A : Nat → Nat) (d : Nat → ClassId) {w : Int64} {F : Nat → Nat → Int32} {n : Nat} {b : Nat → Bool} (hI : tc_xI n b w F) (z : Int) (hz : zs z) : ro_Met l yX0_previous cX0_previous 5 (some .int) rmX0_previous D (tc_xW A w (zI (n : Int)) d F) (tc_xT d) [.ref (A 0), .int (zI (z))] (fun r => tc_S n b (tc_Rprev b) (zI z) r) := by
  refine ro_of (by decide) (Nat.le_of_ble_eq_true rfl) ?_
  intro p e s m below meth c ls C hl
  obtain ⟨hx, hb, hr, hml, hown, hts, hlocks, hP, hK⟩ := C
  have hown : s.vm.findClass RX0 = some m.cls := hown
  have hl : lv_has ls 5 [(0, .ref (A 0)), (1, .int (zI (z)))] := hl
  obtain ⟨hn, hok, hw, hB⟩ := id hI
  refine lv_aload_n hx hb dX0_previous_0 rfl (lv_at hl 0 rfl) ?_
  refine lv_iload_n hx hb dX0_previous_1 rfl (lv_at hl 1 rfl) ?_
  refine ro_call (n := 1) hx hb hml hown hts (kX_isNode l D A d hI z hz) (lw_V q93 q95 qs5 q16 q96) (by decide +kernel) ⟨Nat.le_of_ble_eq_true rfl, Nat.le_of_ble_eq_true rfl⟩ ⟨rfl, rfl⟩ hK hP rfl rfl rfl hl rfl (Nat.le_of_ble_eq_true rfl) dX0_previous_2 ⟨Nat.le_of_ble_eq_true rfl, Nat.le_of_ble_eq_true rfl⟩ (fun r2 hN => ?_)
  refine t_if_ne (tgt := 10) hx hb dX0_previous_5 (by decide) hN (fun hc => ?_) (fun hc => ?_)
  · obtain ⟨p0, hp1, hp2, hz0⟩ := tc_nd_ob hn hz hc
    subst hz0
    have hN0 : tc_isN n b p0 (zI (tc_cnt b p0 : Int)) := ⟨hp1, hp2, rfl⟩
    refine lv_aload_n hx hb dX0_previous_10 rfl (lv_at hl 0 rfl) ?_
    refine lv_iload_n hx hb dX0_previous_11 rfl (lv_at hl 1 rfl) ?_
    refine ro_calle (n := 1) hx hb hml hown hts (kX_placeOf l D A d hI p0 hp1 hp2) (lw_V q97 q99 qs6 q16 q100) (by decide +kernel) ⟨Nat.le_of_ble_eq_true rfl, Nat.le_of_ble_eq_true rfl⟩ ⟨rfl, rfl⟩ hK hP rfl rfl rfl hl rfl (Nat.le_of_ble_eq_true rfl) dX0_previous_12 ⟨Nat.le_of_ble_eq_true rfl, Nat.le_of_ble_eq_true rfl⟩ ?_
    refine lv_istore_n (lv' := [(2, .int (zI ((p0 : Int)))), (0, .ref (A 0)), (1, .int (zI ((tc_cnt b p0 : Int))))]) hx hb dX0_previous_15 rfl hl (by decide) rfl (fun ls hl => ?_)
    refine lv_iload_n hx hb dX0_previous_16 rfl (lv_at hl 0 rfl) ?_
    refine z_if_eq (tgt := 30) hx hb dX0_previous_17 (by decide) (⟨by omega, by omega⟩) (fun hc2 => ?_) (fun hc2 => ?_)
    · refine lv_iconst (v := zI (-1)) hx hb dX0_previous_30 rfl ?_
      exact ro_ret hx hb hr hlocks (Or.inr ⟨p0, -1, hN0, tc_prev_none (Or.inl (by omega)), rfl⟩) dX0_previous_31
    · refine lv_aload_n hx hb dX0_previous_20 rfl (lv_at hl 1 rfl) ?_
      refine lv_iload_n hx hb dX0_previous_21 rfl (lv_at hl 0 rfl) ?_
      refine lv_iconst (v := zI 1) hx hb dX0_previous_22 rfl ?_
      refine z_isub hx hb dX0_previous_23 ?_
      refine z_set (y := ((p0 - 1 : Nat) : Int)) (by omega) ?_
      refine ro_call (n := 1) hx hb hml hown hts (kX_opensAt l D A d hI (p0 - 1) (by omega)) (lw_V q54 q56 qs1 q16 q57) (by decide +kernel) ⟨Nat.le_of_ble_eq_true rfl, Nat.le_of_ble_eq_true rfl⟩ ⟨rfl, rfl⟩ hK hP rfl rfl rfl hl rfl (Nat.le_of_ble_eq_true rfl) dX0_previous_24 ⟨Nat.le_of_ble_eq_true rfl, Nat.le_of_ble_eq_true rfl⟩ (fun r24 hO => ?_)
      refine t_if_eq (tgt := 32) hx hb dX0_previous_27 (by decide) hO (fun hc3 => ?_) (fun hc3 => ?_)
      · have hf := ts_nt hc3
        have hl0 := tc_lev_f hf
        rw [show p0 - 1 + 1 = p0 by omega] at hl0
        have l0 := hok p0 (by omega)
        refine lv_aload_n hx hb dX0_previous_32 rfl (lv_at hl 1 rfl) ?_
        refine lv_iload_n hx hb dX0_previous_33 rfl (lv_at hl 0 rfl) ?_
        refine ro_calle (n := 1) hx hb hml hown hts (kX_levelBefore l D A d hI p0 (by omega)) (lw_V q74 q76 qs3 q16 q77) (by decide +kernel) ⟨Nat.le_of_ble_eq_true rfl, Nat.le_of_ble_eq_true rfl⟩ ⟨rfl, rfl⟩ hK hP rfl rfl rfl hl rfl (Nat.le_of_ble_eq_true rfl) dX0_previous_34 ⟨Nat.le_of_ble_eq_true rfl, Nat.le_of_ble_eq_true rfl⟩ ?_
        refine lv_istore_n (lv' := [(3, .int (zI (tc_lev b p0))), (2, .int (zI ((p0 : Int)))), (0, .ref (A 0)), (1, .int (zI ((tc_cnt b p0 : Int))))]) hx hb dX0_previous_37 rfl hl (by decide) rfl (fun ls hl => ?_)
        refine lv_aload_n hx hb dX0_previous_38 rfl (lv_at hl 2 rfl) ?_
        refine lv_iload_n hx hb dX0_previous_39 rfl (lv_at hl 1 rfl) ?_
        refine lv_iconst (v := zI 1) hx hb dX0_previous_40 rfl ?_
        refine z_isub hx hb dX0_previous_41 ?_
        refine z_set (y := ((p0 - 1 : Nat) : Int)) (by omega) ?_
        refine lv_iload_n hx hb dX0_previous_42 rfl (lv_at hl 0 rfl) ?_
        refine ro_call (n := 2) hx hb hml hown hts (kX_backTo l D A d hI (p0 - 1) (by omega) (tc_lev b p0) l0 (by omega)) (lw_V q78 q80 qs4 q16 q81) (by decide +kernel) ⟨Nat.le_of_ble_eq_true rfl, Nat.le_of_ble_eq_true rfl⟩ ⟨rfl, rfl⟩ hK hP rfl rfl rfl hl rfl (Nat.le_of_ble_eq_true rfl) dX0_previous_43 ⟨Nat.le_of_ble_eq_true rfl, Nat.le_of_ble_eq_true rfl⟩ (fun r43 hQ => ?_)
        obtain ⟨q, rfl, hq⟩ := hQ
        refine lv_istore (lv' := [(4, .int (zI ((q : Int)))), (3, .int (zI (tc_lev b p0))), (2, .int (zI ((p0 : Int)))), (0, .ref (A 0)), (1, .int (zI ((tc_cnt b p0 : Int))))]) hx hb dX0_previous_46 hl (by decide) rfl (fun ls hl => ?_)
        refine lv_aload_n hx hb dX0_previous_48 rfl (lv_at hl 3 rfl) ?_
        refine lv_iload hx hb dX0_previous_49 (lv_at hl 0 rfl) ?_
        refine ro_calle (n := 1) hx hb hml hown hts (kX_opensBefore l D A d hI q (by have := hq.1; omega)) (lw_V q62 q64 qs2 q16 q65) (by decide +kernel) ⟨Nat.le_of_ble_eq_true rfl, Nat.le_of_ble_eq_true rfl⟩ ⟨rfl, rfl⟩ hK hP rfl rfl rfl hl rfl (Nat.le_of_ble_eq_true rfl) dX0_previous_51 ⟨Nat.le_of_ble_eq_true rfl, Nat.le_of_ble_eq_true rfl⟩ ?_
        exact ro_ret hx hb hr hlocks (Or.inr ⟨p0, _, hN0, tc_prev_some (by omega) hf hq, rfl⟩) dX0_previous_54
      · refine lv_iconst (v := zI (-1)) hx hb dX0_previous_30 rfl ?_
        exact ro_ret hx hb hr hlocks (Or.inr ⟨p0, -1, hN0, tc_prev_none (Or.inr ⟨by omega, hc3⟩), rfl⟩) dX0_previous_31
  · refine lv_iconst (v := zI (-1)) hx hb dX0_previous_8 rfl ?_
    exact ro_ret hx hb hr hlocks (Or.inl ⟨hc, rfl⟩) dX0_previous_9
abbrev rmX0_aboveAt : Room := { frames := 4, cells := 0, slots := 0, locals := 93 }
set_option maxHeartbeats 4000000 in
set_option maxRecDepth 100000 in
theorem kX_aboveAt (l : Launch) (D : va_G) (A : Nat → Nat) (d : Nat → ClassId) {w : Int64} {F : Nat → Nat → Int32} {n : Nat} {b : Nat → Bool} (hI : tc_xI n b w F) (z : Int) (hz : zs z) (g : Int) (hg : zs g) : ro_Met l yX0_aboveAt cX0_aboveAt 6 (some .int) rmX0_aboveAt D (tc_xW A w (zI (n : Int)) d F) (tc_xT d) [.ref (A 0), .int (zI (z)), .int (zI (g))] (fun r => tc_S n b (tc_Rabove b (zI g)) (zI z) r) := by
  refine ro_of (by decide) (Nat.le_of_ble_eq_true rfl) ?_
  intro p e s m below meth c ls C hl
  obtain ⟨hx, hb, hr, hml, hown, hts, hlocks, hP, hK⟩ := C
  have hown : s.vm.findClass RX0 = some m.cls := hown
  have hl : lv_has ls 6 [(0, .ref (A 0)), (1, .int (zI (z))), (2, .int (zI (g)))] := hl
  obtain ⟨hn, hok, hw, hB⟩ := id hI
  refine lv_aload_n hx hb dX0_aboveAt_0 rfl (lv_at hl 0 rfl) ?_
  refine lv_iload_n hx hb dX0_aboveAt_1 rfl (lv_at hl 1 rfl) ?_
  refine ro_call (n := 1) hx hb hml hown hts (kX_isNode l D A d hI z hz) (lw_V q93 q95 qs5 q16 q96) (by decide +kernel) ⟨Nat.le_of_ble_eq_true rfl, Nat.le_of_ble_eq_true rfl⟩ ⟨rfl, rfl⟩ hK hP rfl rfl rfl hl rfl (Nat.le_of_ble_eq_true rfl) dX0_aboveAt_2 ⟨Nat.le_of_ble_eq_true rfl, Nat.le_of_ble_eq_true rfl⟩ (fun r2 hN => ?_)
  refine t_if_eq (tgt := 12) hx hb dX0_aboveAt_5 (by decide) hN (fun hc => ?_) (fun hc => ?_)
  · refine lv_iconst (v := zI (-1)) hx hb dX0_aboveAt_12 rfl ?_
    exact ro_ret hx hb hr hlocks (Or.inl ⟨hc, rfl⟩) dX0_aboveAt_13
  · obtain ⟨p0, hp1, hp2, hz0⟩ := tc_nd_ob hn hz hc
    subst hz0
    have hN0 : tc_isN n b p0 (zI (tc_cnt b p0 : Int)) := ⟨hp1, hp2, rfl⟩
    refine lv_iload_n hx hb dX0_aboveAt_8 rfl (lv_at hl 2 rfl) ?_
    refine z_if_ge (tgt := 14) hx hb dX0_aboveAt_9 (by decide) (hg) (fun hc2 => ?_) (fun hc2 => ?_)
    · refine lv_aload_n hx hb dX0_aboveAt_14 rfl (lv_at hl 0 rfl) ?_
      refine lv_iload_n hx hb dX0_aboveAt_15 rfl (lv_at hl 1 rfl) ?_
      refine ro_calle (n := 1) hx hb hml hown hts (kX_placeOf l D A d hI p0 hp1 hp2) (lw_V q97 q99 qs6 q16 q100) (by decide +kernel) ⟨Nat.le_of_ble_eq_true rfl, Nat.le_of_ble_eq_true rfl⟩ ⟨rfl, rfl⟩ hK hP rfl rfl rfl hl rfl (Nat.le_of_ble_eq_true rfl) dX0_aboveAt_16 ⟨Nat.le_of_ble_eq_true rfl, Nat.le_of_ble_eq_true rfl⟩ ?_
      refine lv_istore_n (lv' := [(3, .int (zI ((p0 : Int)))), (0, .ref (A 0)), (1, .int (zI ((tc_cnt b p0 : Int)))), (2, .int (zI (g)))]) hx hb dX0_aboveAt_19 rfl hl (by decide) rfl (fun ls hl => ?_)
      refine lv_aload_n hx hb dX0_aboveAt_20 rfl (lv_at hl 1 rfl) ?_
      refine lv_iload_n hx hb dX0_aboveAt_21 rfl (lv_at hl 0 rfl) ?_
      refine ro_calle (n := 1) hx hb hml hown hts (kX_levelBefore l D A d hI p0 (by omega)) (lw_V q74 q76 qs3 q16 q77) (by decide +kernel) ⟨Nat.le_of_ble_eq_true rfl, Nat.le_of_ble_eq_true rfl⟩ ⟨rfl, rfl⟩ hK hP rfl rfl rfl hl rfl (Nat.le_of_ble_eq_true rfl) dX0_aboveAt_22 ⟨Nat.le_of_ble_eq_true rfl, Nat.le_of_ble_eq_true rfl⟩ ?_
      have l1 := tc_lev_le b p0
      have l0 := hok p0 (by omega)
      refine lv_istore (lv' := [(4, .int (zI (tc_lev b p0))), (3, .int (zI ((p0 : Int)))), (0, .ref (A 0)), (1, .int (zI ((tc_cnt b p0 : Int)))), (2, .int (zI (g)))]) hx hb dX0_aboveAt_25 hl (by decide) rfl (fun ls hl => ?_)
      refine lv_iload_n hx hb dX0_aboveAt_27 rfl (lv_at hl 4 rfl) ?_
      refine lv_iload hx hb dX0_aboveAt_28 (lv_at hl 0 rfl) ?_
      refine z_icmp_lt (tgt := 45) hx hb dX0_aboveAt_30 (by decide) (hg) (⟨by omega, by omega⟩) (fun hc3 => ?_) (fun hc3 => ?_)
      · refine lv_aload_n hx hb dX0_aboveAt_45 rfl (lv_at hl 2 rfl) ?_
        refine lv_iload_n hx hb dX0_aboveAt_46 rfl (lv_at hl 1 rfl) ?_
        refine lv_iload_n hx hb dX0_aboveAt_47 rfl (lv_at hl 4 rfl) ?_
        refine ro_call (n := 2) hx hb hml hown hts (kX_backTo l D A d hI p0 (by omega) g (by omega) (by omega)) (lw_V q78 q80 qs4 q16 q81) (by decide +kernel) ⟨Nat.le_of_ble_eq_true rfl, Nat.le_of_ble_eq_true rfl⟩ ⟨rfl, rfl⟩ hK hP rfl rfl rfl hl rfl (Nat.le_of_ble_eq_true rfl) dX0_aboveAt_48 ⟨Nat.le_of_ble_eq_true rfl, Nat.le_of_ble_eq_true rfl⟩ (fun r48 hQ => ?_)
        obtain ⟨q, rfl, hq⟩ := hQ
        refine lv_istore (lv' := [(5, .int (zI ((q : Int)))), (4, .int (zI (tc_lev b p0))), (3, .int (zI ((p0 : Int)))), (0, .ref (A 0)), (1, .int (zI ((tc_cnt b p0 : Int)))), (2, .int (zI (g)))]) hx hb dX0_aboveAt_51 hl (by decide) rfl (fun ls hl => ?_)
        refine lv_aload_n hx hb dX0_aboveAt_53 rfl (lv_at hl 3 rfl) ?_
        refine lv_iload hx hb dX0_aboveAt_54 (lv_at hl 0 rfl) ?_
        refine ro_calle (n := 1) hx hb hml hown hts (kX_opensBefore l D A d hI q (by have := hq.1; omega)) (lw_V q62 q64 qs2 q16 q65) (by decide +kernel) ⟨Nat.le_of_ble_eq_true rfl, Nat.le_of_ble_eq_true rfl⟩ ⟨rfl, rfl⟩ hK hP rfl rfl rfl hl rfl (Nat.le_of_ble_eq_true rfl) dX0_aboveAt_56 ⟨Nat.le_of_ble_eq_true rfl, Nat.le_of_ble_eq_true rfl⟩ ?_
        exact ro_ret hx hb hr hlocks (Or.inr ⟨p0, _, hN0, tc_above_bk hq, rfl⟩) dX0_aboveAt_59
      · refine lv_iload_n hx hb dX0_aboveAt_33 rfl (lv_at hl 4 rfl) ?_
        refine lv_iload hx hb dX0_aboveAt_34 (lv_at hl 0 rfl) ?_
        refine z_icmp_ne (tgt := 43) hx hb dX0_aboveAt_36 (by decide) (hg) (⟨by omega, by omega⟩) (fun hc4 => ?_) (fun hc4 => ?_)
        · refine lv_iconst (v := zI (-1)) hx hb dX0_aboveAt_43 rfl ?_
          exact ro_ret hx hb hr hlocks (Or.inr ⟨p0, -1, hN0, tc_above_none hg (by omega) (fun i hi => hok i (by omega)) (Or.inr (by omega)), rfl⟩) dX0_aboveAt_44
        · refine lv_iload_n hx hb dX0_aboveAt_39 rfl (lv_at hl 3 rfl) ?_
          refine lv_goto (tgt := 44) hx hb dX0_aboveAt_40 (by decide) ?_
          exact ro_ret hx hb hr hlocks (Or.inr ⟨p0, _, hN0, by rw [hc4]; exact tc_above_eq hp2, rfl⟩) dX0_aboveAt_44
    · refine lv_iconst (v := zI (-1)) hx hb dX0_aboveAt_12 rfl ?_
      exact ro_ret hx hb hr hlocks (Or.inr ⟨p0, -1, hN0, tc_above_none hg (by omega) (fun i hi => hok i (by omega)) (Or.inl (by omega)), rfl⟩) dX0_aboveAt_13
abbrev rmX0_child : Room := { frames := 6, cells := 0, slots := 0, locals := 138 }
set_option maxHeartbeats 4000000 in
set_option maxRecDepth 100000 in
theorem kX_child (l : Launch) (D : va_G) (A : Nat → Nat) (d : Nat → ClassId) {w : Int64} {F : Nat → Nat → Int32} {n : Nat} {b : Nat → Bool} (hI : tc_xI n b w F) (z : Int) (hz : zs z) (g : Int) (hg : zs g) : ro_Met l yX0_child cX0_child 6 (some .int) rmX0_child D (tc_xW A w (zI (n : Int)) d F) (tc_xT d) [.ref (A 0), .int (zI (z)), .int (zI (g))] (fun r => tc_S n b (tc_Rchild n b (zI g)) (zI z) r) := by
  refine ro_of (by decide) (Nat.le_of_ble_eq_true rfl) ?_
  intro p e s m below meth c ls C hl
  obtain ⟨hx, hb, hr, hml, hown, hts, hlocks, hP, hK⟩ := C
  have hown : s.vm.findClass RX0 = some m.cls := hown
  have hl : lv_has ls 6 [(0, .ref (A 0)), (1, .int (zI (z))), (2, .int (zI (g)))] := hl
  obtain ⟨hn, hok, hw, hB⟩ := id hI
  refine lv_aload_n hx hb dX0_child_0 rfl (lv_at hl 0 rfl) ?_
  refine lv_iload_n hx hb dX0_child_1 rfl (lv_at hl 1 rfl) ?_
  refine ro_call (n := 1) hx hb hml hown hts (kX_isNode l D A d hI z hz) (lw_V q93 q95 qs5 q16 q96) (by decide +kernel) ⟨Nat.le_of_ble_eq_true rfl, Nat.le_of_ble_eq_true rfl⟩ ⟨rfl, rfl⟩ hK hP rfl rfl rfl hl rfl (Nat.le_of_ble_eq_true rfl) dX0_child_2 ⟨Nat.le_of_ble_eq_true rfl, Nat.le_of_ble_eq_true rfl⟩ (fun r2 hN => ?_)
  refine t_if_eq (tgt := 12) hx hb dX0_child_5 (by decide) hN (fun hc => ?_) (fun hc => ?_)
  · refine lv_iconst (v := zI (-1)) hx hb dX0_child_12 rfl ?_
    exact ro_ret hx hb hr hlocks (Or.inl ⟨hc, rfl⟩) dX0_child_13
  · obtain ⟨p0, hp1, hp2, hz0⟩ := tc_nd_ob hn hz hc
    subst hz0
    have hN0 : tc_isN n b p0 (zI (tc_cnt b p0 : Int)) := ⟨hp1, hp2, rfl⟩
    refine lv_iload_n hx hb dX0_child_8 rfl (lv_at hl 2 rfl) ?_
    refine z_if_ge (tgt := 14) hx hb dX0_child_9 (by decide) (hg) (fun hc2 => ?_) (fun hc2 => ?_)
    · have loop : ∀ (f : Nat) (i : Nat) (x : Int), 65 ≤ i + f → i ≤ 64 → ((i : Int) ≤ g) → ((x = -1 ∧ tc_num (tc_kid b p0) n = i) ∨ ∃ q, q < n ∧ tc_kid b p0 q ∧ tc_num (tc_kid b p0) q = i ∧ x = (tc_cnt b q : Int)) → ∀ (ls : Array Slot), lv_has ls 6 [(0, .ref (A 0)), (1, .int (zI ((tc_cnt b p0 : Int)))), (2, .int (zI (g))), (3, .int (zI ((p0 : Int)))), (4, .int (zI (x))), (5, .int (zI ((i : Int))))] → ro_G p l e s m below meth c yX0_child cX0_child 6 (some .int) rmX0_child [.ref (A 0), .int (zI ((tc_cnt b p0 : Int))), .int (zI (g))] (fun r => tc_S n b (tc_Rchild n b (zI g)) (zI ((tc_cnt b p0 : Int))) r) (F0 m 32 ls []) := by
        intro f
        induction f with
        | zero => intro i x h1 h2 h3 h4; exact absurd h1 (by omega)
        | succ f ih =>
          intro i x h1 h2 h3 h4 ls hl
          have hx0 : -1 ≤ x ∧ x ≤ 64 := by
            rcases h4 with ⟨a, _⟩ | ⟨q, a, _, _, c⟩
            · omega
            · have := tc_cnt_le b q; omega
          refine lv_iload hx hb dX0_child_32 (lv_at hl 5 rfl) ?_
          refine lv_iload_n hx hb dX0_child_34 rfl (lv_at hl 2 rfl) ?_
          refine z_icmp_ge (tgt := 57) hx hb dX0_child_35 (by decide) (⟨by omega, by omega⟩) (hg) (fun hc3 => ?_) (fun hc3 => ?_)
          · refine lv_iload hx hb dX0_child_57 (lv_at hl 4 rfl) ?_
            rcases h4 with ⟨a, c⟩ | ⟨q, a, c, d, e⟩
            · subst a; exact ro_ret hx hb hr hlocks (Or.inr ⟨p0, -1, hN0, tc_child_none hn hg (Or.inr (by omega)), rfl⟩) dX0_child_59
            · subst e; exact ro_ret hx hb hr hlocks (Or.inr ⟨p0, _, hN0, Or.inl ⟨q, a, c, by rw [d]; congr 1; omega, rfl⟩, rfl⟩) dX0_child_59
          · refine lv_iload hx hb dX0_child_38 (lv_at hl 4 rfl) ?_
            refine z_if_lt (tgt := 57) hx hb dX0_child_40 (by decide) (⟨by omega, by omega⟩) (fun hc4 => ?_) (fun hc4 => ?_)
            · refine lv_iload hx hb dX0_child_57 (lv_at hl 4 rfl) ?_
              rcases h4 with ⟨a, c⟩ | ⟨q, a, c, d, e⟩
              · subst a; exact ro_ret hx hb hr hlocks (Or.inr ⟨p0, -1, hN0, tc_child_none hn hg (Or.inr (by omega)), rfl⟩) dX0_child_59
              · omega
            · rcases h4 with ⟨a, c⟩ | ⟨q, hq1, hq2, hq3, e⟩
              · omega
              subst e
              have cq := tc_num_le (tc_kid b p0) q
              refine lv_aload_n hx hb dX0_child_43 rfl (lv_at hl 0 rfl) ?_
              refine lv_iload hx hb dX0_child_44 (lv_at hl 4 rfl) ?_
              refine ro_call (n := 1) hx hb hml hown hts (kX_next l D A d hI (tc_cnt b q : Int) ⟨by omega, by omega⟩) (lw_V q129 q130 q131 q16 q132) (by decide +kernel) ⟨Nat.le_of_ble_eq_true rfl, Nat.le_of_ble_eq_true rfl⟩ ⟨rfl, rfl⟩ hK hP rfl rfl rfl hl rfl (Nat.le_of_ble_eq_true rfl) dX0_child_46 ⟨Nat.le_of_ble_eq_true rfl, Nat.le_of_ble_eq_true rfl⟩ (fun rx hX => ?_)
              obtain ⟨x2, hx2, rfl⟩ := tc_S_at hn hq1 hq2.1 hX
              have hkn := tc_kid_next hok hq1 hq2 hx2
              refine lv_istore (lv' := [(4, .int (zI (x2))), (0, .ref (A 0)), (1, .int (zI ((tc_cnt b p0 : Int)))), (2, .int (zI (g))), (3, .int (zI ((p0 : Int)))), (5, .int (zI ((i : Int))))]) hx hb dX0_child_49 hl (by decide) rfl (fun ls hl => ?_)
              refine lv_iinc (v := zI (((i + 1 : Nat) : Int))) (lv' := [(5, .int (zI (((i + 1 : Nat) : Int)))), (4, .int (zI (x2))), (0, .ref (A 0)), (1, .int (zI ((tc_cnt b p0 : Int)))), (2, .int (zI (g))), (3, .int (zI ((p0 : Int))))]) hx hb dX0_child_51 hl (k := 5) rfl (zI_inc (by omega)) (by decide) rfl (fun ls hl => ?_)
              refine lv_goto (tgt := 32) hx hb dX0_child_54 (by decide) ?_
              refine ih (i + 1) x2 (by omega) (by omega) (by omega) ?_ ls (lv_sub hl [2, 3, 4, 5, 1, 0] rfl)
              rcases hkn with ⟨r, a1, a2, a3, a4⟩ | ⟨a1, a2⟩
              · exact Or.inr ⟨r, a1, a2, by omega, a4⟩
              · exact Or.inl ⟨a2, by omega⟩
      refine lv_aload_n hx hb dX0_child_14 rfl (lv_at hl 0 rfl) ?_
      refine lv_iload_n hx hb dX0_child_15 rfl (lv_at hl 1 rfl) ?_
      refine ro_calle (n := 1) hx hb hml hown hts (kX_placeOf l D A d hI p0 hp1 hp2) (lw_V q97 q99 qs6 q16 q100) (by decide +kernel) ⟨Nat.le_of_ble_eq_true rfl, Nat.le_of_ble_eq_true rfl⟩ ⟨rfl, rfl⟩ hK hP rfl rfl rfl hl rfl (Nat.le_of_ble_eq_true rfl) dX0_child_16 ⟨Nat.le_of_ble_eq_true rfl, Nat.le_of_ble_eq_true rfl⟩ ?_
      refine lv_istore_n (lv' := [(3, .int (zI ((p0 : Int)))), (0, .ref (A 0)), (1, .int (zI ((tc_cnt b p0 : Int)))), (2, .int (zI (g)))]) hx hb dX0_child_19 rfl hl (by decide) rfl (fun ls hl => ?_)
      refine lv_aload_n hx hb dX0_child_20 rfl (lv_at hl 1 rfl) ?_
      refine lv_iload_n hx hb dX0_child_21 rfl (lv_at hl 0 rfl) ?_
      refine lv_iconst (v := zI 1) hx hb dX0_child_22 rfl ?_
      refine z_iadd hx hb dX0_child_23 ?_
      refine z_set (y := ((p0 + 1 : Nat) : Int)) (by omega) ?_
      refine ro_call (n := 1) hx hb hml hown hts (kX_nodeAt l D A d hI (p0 + 1) (by omega)) (lw_V q125 q127 qs9 q16 q128) (by decide +kernel) ⟨Nat.le_of_ble_eq_true rfl, Nat.le_of_ble_eq_true rfl⟩ ⟨rfl, rfl⟩ hK hP rfl rfl rfl hl rfl (Nat.le_of_ble_eq_true rfl) dX0_child_24 ⟨Nat.le_of_ble_eq_true rfl, Nat.le_of_ble_eq_true rfl⟩ (fun r24 hZ => ?_)
      obtain ⟨z1, rfl, hz1⟩ := hZ
      refine lv_istore (lv' := [(4, .int (zI (z1))), (3, .int (zI ((p0 : Int)))), (0, .ref (A 0)), (1, .int (zI ((tc_cnt b p0 : Int)))), (2, .int (zI (g)))]) hx hb dX0_child_27 hl (by decide) rfl (fun ls hl => ?_)
      refine lv_iconst (v := zI 0) hx hb dX0_child_29 rfl ?_
      refine lv_istore (lv' := [(5, .int (zI (0))), (4, .int (zI (z1))), (3, .int (zI ((p0 : Int)))), (0, .ref (A 0)), (1, .int (zI ((tc_cnt b p0 : Int)))), (2, .int (zI (g)))]) hx hb dX0_child_30 hl (by decide) rfl (fun ls hl => ?_)
      refine loop 65 0 z1 (by omega) (by omega) (by omega) ?_ ls (lv_sub hl [3, 4, 5, 2, 1, 0] rfl)
      rcases hz1 with ⟨a1, a2, a3⟩ | ⟨a1, a2⟩
      · have hk := tc_kid_first hp2 a2
        exact Or.inr ⟨p0 + 1, a1, hk.1, hk.2, a3⟩
      · exact Or.inl ⟨a2, tc_kid_none hp2 a1⟩
    · refine lv_iconst (v := zI (-1)) hx hb dX0_child_12 rfl ?_
      exact ro_ret hx hb hr hlocks (Or.inr ⟨p0, -1, hN0, tc_child_none hn hg (Or.inl (by omega)), rfl⟩) dX0_child_13
abbrev rmX0_children : Room := { frames := 7, cells := 0, slots := 0, locals := 163 }
set_option maxHeartbeats 4000000 in
set_option maxRecDepth 100000 in
theorem kX_children (l : Launch) (D : va_G) (A : Nat → Nat) (d : Nat → ClassId) {w : Int64} {F : Nat → Nat → Int32} {n : Nat} {b : Nat → Bool} (hI : tc_xI n b w F) (z : Int) (hz : zs z) : ro_Met l yX0_children cX0_children 5 (some .int) rmX0_children D (tc_xW A w (zI (n : Int)) d F) (tc_xT d) [.ref (A 0), .int (zI (z))] (fun r => tc_S n b (tc_Rchildren n b) (zI z) r) := by
  refine ro_of (by decide) (Nat.le_of_ble_eq_true rfl) ?_
  intro p e s m below meth c ls C hl
  obtain ⟨hx, hb, hr, hml, hown, hts, hlocks, hP, hK⟩ := C
  have hown : s.vm.findClass RX0 = some m.cls := hown
  have hl : lv_has ls 5 [(0, .ref (A 0)), (1, .int (zI (z)))] := hl
  obtain ⟨hn, hok, hw, hB⟩ := id hI
  refine lv_iconst (v := zI 0) hx hb dX0_children_0 rfl ?_
  refine lv_istore_n (lv' := [(2, .int (zI (0))), (0, .ref (A 0)), (1, .int (zI (z)))]) hx hb dX0_children_1 rfl hl (by decide) rfl (fun ls hl => ?_)
  refine lv_aload_n hx hb dX0_children_2 rfl (lv_at hl 1 rfl) ?_
  refine lv_iload_n hx hb dX0_children_3 rfl (lv_at hl 2 rfl) ?_
  refine lv_iconst (v := zI 0) hx hb dX0_children_4 rfl ?_
  refine ro_call (n := 2) hx hb hml hown hts (kX_child l D A d hI z hz 0 zs_0) (lw_V q121 q122 q123 q16 q124) (by decide +kernel) ⟨Nat.le_of_ble_eq_true rfl, Nat.le_of_ble_eq_true rfl⟩ ⟨rfl, rfl⟩ hK hP rfl rfl rfl hl rfl (Nat.le_of_ble_eq_true rfl) dX0_children_5 ⟨Nat.le_of_ble_eq_true rfl, Nat.le_of_ble_eq_true rfl⟩ (fun rc hC => ?_)
  by_cases hnd : tc_nd n b (zI z)
  · have hc := hnd
    obtain ⟨p0, hp1, hp2, hz0⟩ := tc_nd_ob hn hz hc
    subst hz0
    have hN0 : tc_isN n b p0 (zI (tc_cnt b p0 : Int)) := ⟨hp1, hp2, rfl⟩
    obtain ⟨x0, hx0, rfl⟩ := tc_S_at hn hp1 hp2 hC
    have loop : ∀ (f : Nat) (i : Nat) (x : Int), 65 ≤ i + f → i ≤ 64 → ((x = -1 ∧ tc_num (tc_kid b p0) n = i) ∨ ∃ q, q < n ∧ tc_kid b p0 q ∧ tc_num (tc_kid b p0) q = i ∧ x = (tc_cnt b q : Int)) → ∀ (ls : Array Slot), lv_has ls 5 [(0, .ref (A 0)), (1, .int (zI ((tc_cnt b p0 : Int)))), (2, .int (zI ((i : Int)))), (3, .int (zI (x))), (4, .int (zI ((i : Int))))] → ro_G p l e s m below meth c yX0_children cX0_children 5 (some .int) rmX0_children [.ref (A 0), .int (zI ((tc_cnt b p0 : Int)))] (fun r => tc_S n b (tc_Rchildren n b) (zI ((tc_cnt b p0 : Int))) r) (F0 m 12 ls []) := by
      intro f
      induction f with
      | zero => intro i x h1 h2 h4; exact absurd h1 (by omega)
      | succ f ih =>
        intro i x h1 h2 h4 ls hl
        have hx0 : -1 ≤ x ∧ x ≤ 64 := by
          rcases h4 with ⟨a, _⟩ | ⟨q, a, _, _, c⟩
          · omega
          · have := tc_cnt_le b q; omega
        have k38 : tc_num (tc_kid b p0) n = i → ro_G p l e s m below meth c yX0_children cX0_children 5 (some .int) rmX0_children [.ref (A 0), .int (zI ((tc_cnt b p0 : Int)))] (fun r => tc_S n b (tc_Rchildren n b) (zI ((tc_cnt b p0 : Int))) r) (F0 m 38 ls []) := by
          intro hnum
          refine lv_aload_n hx hb dX0_children_38 rfl (lv_at hl 0 rfl) ?_
          refine lv_iload_n hx hb dX0_children_39 rfl (lv_at hl 1 rfl) ?_
          refine ro_call (n := 1) hx hb hml hown hts (kX_isNode l D A d hI (tc_cnt b p0 : Int) hz) (lw_V q93 q95 qs5 q16 q96) (by decide +kernel) ⟨Nat.le_of_ble_eq_true rfl, Nat.le_of_ble_eq_true rfl⟩ ⟨rfl, rfl⟩ hK hP rfl rfl rfl hl rfl (Nat.le_of_ble_eq_true rfl) dX0_children_40 ⟨Nat.le_of_ble_eq_true rfl, Nat.le_of_ble_eq_true rfl⟩ (fun r40 hN => ?_)
          refine t_if_eq (tgt := 50) hx hb dX0_children_43 (by decide) hN (fun hc2 => ?_) (fun hc2 => ?_)
          · exact absurd ⟨p0, hN0⟩ hc2
          · refine lv_iload_n hx hb dX0_children_46 rfl (lv_at hl 2 rfl) ?_
            refine lv_goto (tgt := 51) hx hb dX0_children_47 (by decide) ?_
            exact ro_ret hx hb hr hlocks (Or.inr ⟨p0, _, hN0, rfl, by rw [hnum]⟩) dX0_children_51
        refine lv_iload hx hb dX0_children_12 (lv_at hl 4 rfl) ?_
        refine lv_bipush (v := zI 64) hx hb dX0_children_14 (by decide) ?_
        refine z_icmp_ge (tgt := 38) hx hb dX0_children_16 (by decide) (⟨by omega, by omega⟩) (⟨by omega, by omega⟩) (fun hc3 => ?_) (fun hc3 => ?_)
        · rcases h4 with ⟨a, c⟩ | ⟨q, a, c, d, e⟩
          · exact k38 c
          · have := tc_num_le (tc_kid b p0) q; omega
        · refine lv_iload_n hx hb dX0_children_19 rfl (lv_at hl 3 rfl) ?_
          refine z_if_lt (tgt := 38) hx hb dX0_children_20 (by decide) (⟨by omega, by omega⟩) (fun hc4 => ?_) (fun hc4 => ?_)
          · rcases h4 with ⟨a, c⟩ | ⟨q, a, c, d, e⟩
            · exact k38 c
            · omega
          · rcases h4 with ⟨a, c⟩ | ⟨q, hq1, hq2, hq3, e⟩
            · omega
            subst e
            have cq := tc_num_le (tc_kid b p0) q
            refine lv_iinc (v := zI (((i + 1 : Nat) : Int))) (lv' := [(2, .int (zI (((i + 1 : Nat) : Int)))), (0, .ref (A 0)), (1, .int (zI ((tc_cnt b p0 : Int)))), (3, .int (zI ((tc_cnt b q : Int)))), (4, .int (zI ((i : Int))))]) hx hb dX0_children_23 hl (k := 2) rfl (zI_inc (by omega)) (by decide) rfl (fun ls hl => ?_)
            refine lv_aload_n hx hb dX0_children_26 rfl (lv_at hl 1 rfl) ?_
            refine lv_iload_n hx hb dX0_children_27 rfl (lv_at hl 3 rfl) ?_
            refine ro_call (n := 1) hx hb hml hown hts (kX_next l D A d hI (tc_cnt b q : Int) ⟨by omega, by omega⟩) (lw_V q129 q130 q131 q16 q132) (by decide +kernel) ⟨Nat.le_of_ble_eq_true rfl, Nat.le_of_ble_eq_true rfl⟩ ⟨rfl, rfl⟩ hK hP rfl rfl rfl hl rfl (Nat.le_of_ble_eq_true rfl) dX0_children_28 ⟨Nat.le_of_ble_eq_true rfl, Nat.le_of_ble_eq_true rfl⟩ (fun rx hX => ?_)
            obtain ⟨x2, hx2, rfl⟩ := tc_S_at hn hq1 hq2.1 hX
            have hkn := tc_kid_next hok hq1 hq2 hx2
            refine lv_istore_n (lv' := [(3, .int (zI (x2))), (2, .int (zI (((i + 1 : Nat) : Int)))), (0, .ref (A 0)), (1, .int (zI ((tc_cnt b p0 : Int)))), (4, .int (zI ((i : Int))))]) hx hb dX0_children_31 rfl hl (by decide) rfl (fun ls hl => ?_)
            refine lv_iinc (v := zI (((i + 1 : Nat) : Int))) (lv' := [(4, .int (zI (((i + 1 : Nat) : Int)))), (3, .int (zI (x2))), (2, .int (zI (((i + 1 : Nat) : Int)))), (0, .ref (A 0)), (1, .int (zI ((tc_cnt b p0 : Int))))]) hx hb dX0_children_32 hl (k := 4) rfl (zI_inc (by omega)) (by decide) rfl (fun ls hl => ?_)
            refine lv_goto (tgt := 12) hx hb dX0_children_35 (by decide) ?_
            refine ih (i + 1) x2 (by omega) (by omega) ?_ ls (lv_sub hl [3, 4, 2, 1, 0] rfl)
            rcases hkn with ⟨r, a1, a2, a3, a4⟩ | ⟨a1, a2⟩
            · exact Or.inr ⟨r, a1, a2, by omega, a4⟩
            · exact Or.inl ⟨a2, by omega⟩
    refine lv_istore_n (lv' := [(3, .int (zI (x0))), (2, .int (zI (0))), (0, .ref (A 0)), (1, .int (zI ((tc_cnt b p0 : Int))))]) hx hb dX0_children_8 rfl hl (by decide) rfl (fun ls hl => ?_)
    refine lv_iconst (v := zI 0) hx hb dX0_children_9 rfl ?_
    refine lv_istore (lv' := [(4, .int (zI (0))), (3, .int (zI (x0))), (2, .int (zI (0))), (0, .ref (A 0)), (1, .int (zI ((tc_cnt b p0 : Int))))]) hx hb dX0_children_10 hl (by decide) rfl (fun ls hl => ?_)
    refine loop 65 0 x0 (by omega) (by omega) ?_ ls (lv_sub hl [3, 4, 2, 1, 0] rfl)
    rcases tc_child_0 hn hx0 with ⟨a1, a2⟩ | ⟨q, a1, a2, a3, a4⟩
    · exact Or.inl ⟨a1, a2⟩
    · exact Or.inr ⟨q, a1, a2, a3, a4⟩
  · have erc : rc = zI (-1) := by
      rcases hC with ⟨_, a⟩ | ⟨q, _, a, _⟩
      · exact a
      · exact absurd ⟨q, a⟩ hnd
    subst erc
    refine lv_istore_n (lv' := [(3, .int (zI ((-1)))), (2, .int (zI (0))), (0, .ref (A 0)), (1, .int (zI (z)))]) hx hb dX0_children_8 rfl hl (by decide) rfl (fun ls hl => ?_)
    refine lv_iconst (v := zI 0) hx hb dX0_children_9 rfl ?_
    refine lv_istore (lv' := [(4, .int (zI (0))), (3, .int (zI ((-1)))), (2, .int (zI (0))), (0, .ref (A 0)), (1, .int (zI (z)))]) hx hb dX0_children_10 hl (by decide) rfl (fun ls hl => ?_)
    refine lv_iload hx hb dX0_children_12 (lv_at hl 0 rfl) ?_
    refine lv_bipush (v := zI 64) hx hb dX0_children_14 (by decide) ?_
    refine z_icmp_ge (tgt := 38) hx hb dX0_children_16 (by decide) (⟨by omega, by omega⟩) (⟨by omega, by omega⟩) (fun hc3 => ?_) (fun hc3 => ?_)
    · omega
    · refine lv_iload_n hx hb dX0_children_19 rfl (lv_at hl 1 rfl) ?_
      refine z_if_lt (tgt := 38) hx hb dX0_children_20 (by decide) (⟨by omega, by omega⟩) (fun hc4 => ?_) (fun hc4 => ?_)
      · refine lv_aload_n hx hb dX0_children_38 rfl (lv_at hl 3 rfl) ?_
        refine lv_iload_n hx hb dX0_children_39 rfl (lv_at hl 4 rfl) ?_
        refine ro_call (n := 1) hx hb hml hown hts (kX_isNode l D A d hI z hz) (lw_V q93 q95 qs5 q16 q96) (by decide +kernel) ⟨Nat.le_of_ble_eq_true rfl, Nat.le_of_ble_eq_true rfl⟩ ⟨rfl, rfl⟩ hK hP rfl rfl rfl hl rfl (Nat.le_of_ble_eq_true rfl) dX0_children_40 ⟨Nat.le_of_ble_eq_true rfl, Nat.le_of_ble_eq_true rfl⟩ (fun r40 hN => ?_)
        refine t_if_eq (tgt := 50) hx hb dX0_children_43 (by decide) hN (fun hc5 => ?_) (fun hc5 => ?_)
        · refine lv_iconst (v := zI (-1)) hx hb dX0_children_50 rfl ?_
          exact ro_ret hx hb hr hlocks (Or.inl ⟨hnd, rfl⟩) dX0_children_51
        · exact absurd hc5 hnd
      · omega
abbrev rmX0_height : Room := { frames := 5, cells := 0, slots := 0, locals := 115 }
set_option maxHeartbeats 4000000 in
set_option maxRecDepth 100000 in
theorem kX_height (l : Launch) (D : va_G) (A : Nat → Nat) (d : Nat → ClassId) {w : Int64} {F : Nat → Nat → Int32} {n : Nat} {b : Nat → Bool} (hI : tc_xI n b w F) (z : Int) (hz : zs z) : ro_Met l yX0_height cX0_height 9 (some .int) rmX0_height D (tc_xW A w (zI (n : Int)) d F) (tc_xT d) [.ref (A 0), .int (zI (z))] (fun r => tc_S n b (tc_Rheight n b) (zI z) r) := by
  refine ro_of (by decide) (Nat.le_of_ble_eq_true rfl) ?_
  intro p e s m below meth c ls C hl
  obtain ⟨hx, hb, hr, hml, hown, hts, hlocks, hP, hK⟩ := C
  have hown : s.vm.findClass RX0 = some m.cls := hown
  have hl : lv_has ls 9 [(0, .ref (A 0)), (1, .int (zI (z)))] := hl
  obtain ⟨hn, hok, hw, hB⟩ := id hI
  refine lv_aload_n hx hb dX0_height_0 rfl (lv_at hl 0 rfl) ?_
  refine lv_iload_n hx hb dX0_height_1 rfl (lv_at hl 1 rfl) ?_
  refine ro_call (n := 1) hx hb hml hown hts (kX_isNode l D A d hI z hz) (lw_V q93 q95 qs5 q16 q96) (by decide +kernel) ⟨Nat.le_of_ble_eq_true rfl, Nat.le_of_ble_eq_true rfl⟩ ⟨rfl, rfl⟩ hK hP rfl rfl rfl hl rfl (Nat.le_of_ble_eq_true rfl) dX0_height_2 ⟨Nat.le_of_ble_eq_true rfl, Nat.le_of_ble_eq_true rfl⟩ (fun r2 hN => ?_)
  refine t_if_ne (tgt := 10) hx hb dX0_height_5 (by decide) hN (fun hc => ?_) (fun hc => ?_)
  · obtain ⟨p0, hp1, hp2, hz0⟩ := tc_nd_ob hn hz hc
    subst hz0
    have hN0 : tc_isN n b p0 (zI (tc_cnt b p0 : Int)) := ⟨hp1, hp2, rfl⟩
    refine lv_aload_n hx hb dX0_height_10 rfl (lv_at hl 0 rfl) ?_
    refine lv_iload_n hx hb dX0_height_11 rfl (lv_at hl 1 rfl) ?_
    refine ro_calle (n := 1) hx hb hml hown hts (kX_placeOf l D A d hI p0 hp1 hp2) (lw_V q97 q99 qs6 q16 q100) (by decide +kernel) ⟨Nat.le_of_ble_eq_true rfl, Nat.le_of_ble_eq_true rfl⟩ ⟨rfl, rfl⟩ hK hP rfl rfl rfl hl rfl (Nat.le_of_ble_eq_true rfl) dX0_height_12 ⟨Nat.le_of_ble_eq_true rfl, Nat.le_of_ble_eq_true rfl⟩ ?_
    refine lv_istore_n (lv' := [(2, .int (zI ((p0 : Int)))), (0, .ref (A 0)), (1, .int (zI ((tc_cnt b p0 : Int))))]) hx hb dX0_height_15 rfl hl (by decide) rfl (fun ls hl => ?_)
    refine lv_aload_n hx hb dX0_height_16 rfl (lv_at hl 1 rfl) ?_
    refine lv_iload_n hx hb dX0_height_17 rfl (lv_at hl 0 rfl) ?_
    refine ro_call (n := 1) hx hb hml hown hts (kX_endOf l D A d hI p0 hp1 hp2) (lw_V q109 q111 qs7 q16 q112) (by decide +kernel) ⟨Nat.le_of_ble_eq_true rfl, Nat.le_of_ble_eq_true rfl⟩ ⟨rfl, rfl⟩ hK hP rfl rfl rfl hl rfl (Nat.le_of_ble_eq_true rfl) dX0_height_18 ⟨Nat.le_of_ble_eq_true rfl, Nat.le_of_ble_eq_true rfl⟩ (fun r18 hE => ?_)
    obtain ⟨e0, rfl, he⟩ := hE
    have he2 := he.2.1
    refine lv_istore_n (lv' := [(3, .int (zI ((e0 : Int)))), (2, .int (zI ((p0 : Int)))), (0, .ref (A 0)), (1, .int (zI ((tc_cnt b p0 : Int))))]) hx hb dX0_height_21 rfl hl (by decide) rfl (fun ls hl => ?_)
    refine lv_aload_n hx hb dX0_height_22 rfl (lv_at hl 2 rfl) ?_
    refine lv_iload_n hx hb dX0_height_23 rfl (lv_at hl 1 rfl) ?_
    refine ro_calle (n := 1) hx hb hml hown hts (kX_levelBefore l D A d hI p0 (by omega)) (lw_V q74 q76 qs3 q16 q77) (by decide +kernel) ⟨Nat.le_of_ble_eq_true rfl, Nat.le_of_ble_eq_true rfl⟩ ⟨rfl, rfl⟩ hK hP rfl rfl rfl hl rfl (Nat.le_of_ble_eq_true rfl) dX0_height_24 ⟨Nat.le_of_ble_eq_true rfl, Nat.le_of_ble_eq_true rfl⟩ ?_
    have lp1 := tc_lev_le b p0
    have lp2 := tc_lev_ge b p0
    refine lv_istore (lv' := [(4, .int (zI (tc_lev b p0))), (3, .int (zI ((e0 : Int)))), (2, .int (zI ((p0 : Int)))), (0, .ref (A 0)), (1, .int (zI ((tc_cnt b p0 : Int))))]) hx hb dX0_height_27 hl (by decide) rfl (fun ls hl => ?_)
    refine lv_iload hx hb dX0_height_29 (lv_at hl 0 rfl) ?_
    refine lv_istore (lv' := [(5, .int (zI (tc_lev b p0))), (4, .int (zI (tc_lev b p0))), (3, .int (zI ((e0 : Int)))), (2, .int (zI ((p0 : Int)))), (0, .ref (A 0)), (1, .int (zI ((tc_cnt b p0 : Int))))]) hx hb dX0_height_31 hl (by decide) rfl (fun ls hl => ?_)
    refine lv_iload hx hb dX0_height_33 (lv_at hl 1 rfl) ?_
    refine lv_istore (lv' := [(6, .int (zI (tc_lev b p0))), (5, .int (zI (tc_lev b p0))), (4, .int (zI (tc_lev b p0))), (3, .int (zI ((e0 : Int)))), (2, .int (zI ((p0 : Int)))), (0, .ref (A 0)), (1, .int (zI ((tc_cnt b p0 : Int))))]) hx hb dX0_height_35 hl (by decide) rfl (fun ls hl => ?_)
    refine lv_iload_n hx hb dX0_height_37 rfl (lv_at hl 4 rfl) ?_
    refine lv_istore (lv' := [(7, .int (zI ((p0 : Int)))), (6, .int (zI (tc_lev b p0))), (5, .int (zI (tc_lev b p0))), (4, .int (zI (tc_lev b p0))), (3, .int (zI ((e0 : Int)))), (2, .int (zI ((p0 : Int)))), (0, .ref (A 0)), (1, .int (zI ((tc_cnt b p0 : Int))))]) hx hb dX0_height_38 hl (by decide) rfl (fun ls hl => ?_)
    have loop : ∀ (f : Nat) (i : Nat) (x : Int), e0 + 1 ≤ i + f → p0 ≤ i → i ≤ e0 → (-64 ≤ x ∧ x ≤ 64) → (∀ j, p0 < j → j ≤ i → tc_lev b j ≤ x) → (x = tc_lev b p0 ∨ ∃ j, p0 < j ∧ j ≤ i ∧ x = tc_lev b j) → ∀ (ls : Array Slot), lv_has ls 9 [(0, .ref (A 0)), (1, .int (zI ((tc_cnt b p0 : Int)))), (2, .int (zI ((p0 : Int)))), (3, .int (zI ((e0 : Int)))), (4, .int (zI (tc_lev b p0))), (5, .int (zI (tc_lev b i))), (6, .int (zI (x))), (7, .int (zI ((i : Int))))] → ro_G p l e s m below meth c yX0_height cX0_height 9 (some .int) rmX0_height [.ref (A 0), .int (zI ((tc_cnt b p0 : Int)))] (fun r => tc_S n b (tc_Rheight n b) (zI ((tc_cnt b p0 : Int))) r) (F0 m 40 ls []) := by
      intro f
      induction f with
      | zero => intro i x h1 h2 h3 h4 h5 h6; exact absurd h1 (by omega)
      | succ f ih =>
        intro i x h1 h2 h3 h4 h5 h6 ls hl
        obtain ⟨x1, x2⟩ := h4
        have l1 := tc_lev_le b i
        have l2 := tc_lev_ge b i
        refine lv_iload hx hb dX0_height_40 (lv_at hl 7 rfl) ?_
        refine lv_iload_n hx hb dX0_height_42 rfl (lv_at hl 3 rfl) ?_
        refine z_icmp_ge (tgt := 161) hx hb dX0_height_43 (by decide) (⟨by omega, by omega⟩) (⟨by omega, by omega⟩) (fun hc => ?_) (fun hc => ?_)
        · have ei : i = e0 := by omega
          subst ei
          refine lv_iload hx hb dX0_height_161 (lv_at hl 6 rfl) ?_
          refine lv_iload hx hb dX0_height_163 (lv_at hl 4 rfl) ?_
          refine z_isub hx hb dX0_height_165 ?_
          refine lv_iconst (v := zI 1) hx hb dX0_height_166 rfl ?_
          refine z_isub hx hb dX0_height_167 ?_
          exact ro_ret hx hb hr hlocks (Or.inr ⟨p0, _, hN0, tc_height_of hp2 he h5 h6, rfl⟩) dX0_height_168
        · refine lv_iload hx hb dX0_height_46 (lv_at hl 7 rfl) ?_
          refine lv_bipush (v := zI 8) hx hb dX0_height_48 (by decide) ?_
          refine z_idiv (a := i) hx hb (by omega) dX0_height_50 ?_
          refine lv_istore (lv' := [(8, .int (zI (((i / 8 : Nat) : Int)))), (0, .ref (A 0)), (1, .int (zI ((tc_cnt b p0 : Int)))), (2, .int (zI ((p0 : Int)))), (3, .int (zI ((e0 : Int)))), (4, .int (zI (tc_lev b p0))), (5, .int (zI (tc_lev b i))), (6, .int (zI (x))), (7, .int (zI ((i : Int))))]) hx hb dX0_height_51 hl (by decide) rfl (fun ls hl => ?_)
          have k120 : ro_G p l e s m below meth c yX0_height cX0_height 9 (some .int) rmX0_height [.ref (A 0), .int (zI ((tc_cnt b p0 : Int)))] (fun r => tc_S n b (tc_Rheight n b) (zI ((tc_cnt b p0 : Int))) r) (F0 m 120 ls []) := by
            have l3 := tc_lev_le b (i + 1)
            have l4 := tc_lev_ge b (i + 1)
            refine lv_iload hx hb dX0_height_120 (lv_at hl 6 rfl) ?_
            refine lv_aload_n hx hb dX0_height_122 rfl (lv_at hl 1 rfl) ?_
            refine lv_iload hx hb dX0_height_123 (lv_at hl 8 rfl) ?_
            refine ro_call (n := 1) hx hb hml hown hts (kX_opensAt l D A d hI (i) (by omega)) (lw_V q54 q56 qs1 q16 q57) (by decide +kernel) ⟨Nat.le_of_ble_eq_true rfl, Nat.le_of_ble_eq_true rfl⟩ ⟨rfl, rfl⟩ hK hP rfl rfl rfl hl rfl (Nat.le_of_ble_eq_true rfl) dX0_height_125 ⟨Nat.le_of_ble_eq_true rfl, Nat.le_of_ble_eq_true rfl⟩ (fun r125 hO => ?_)
            suffices kM : ro_G p l e s m below meth c yX0_height cX0_height 9 (some .int) rmX0_height [.ref (A 0), .int (zI ((tc_cnt b p0 : Int)))] (fun r => tc_S n b (tc_Rheight n b) (zI ((tc_cnt b p0 : Int))) r) (F0 m 136 ls [.int (zI (tc_d (b (i)))), .int (zI (tc_lev b i))]) by
              refine t_if_eq (tgt := 135) hx hb dX0_height_128 (by decide) hO (fun hc => ?_) (fun hc => ?_)
              · refine lv_iconst (v := zI (-1)) hx hb dX0_height_135 rfl ?_
                exact z_set (by rw [ts_nt hc]; rfl) kM
              · refine lv_iconst (v := zI 1) hx hb dX0_height_131 rfl ?_
                refine lv_goto (tgt := 136) hx hb dX0_height_132 (by decide) ?_
                exact z_set (by rw [hc]; rfl) kM
            refine z_iadd hx hb dX0_height_136 ?_
            refine z_set (y := tc_lev b (i + 1)) ((tc_lev_s b i).symm) ?_
            refine lv_istore (lv' := [(5, .int (zI (tc_lev b (i + 1)))), (8, .int (zI (((i / 8 : Nat) : Int)))), (0, .ref (A 0)), (1, .int (zI ((tc_cnt b p0 : Int)))), (2, .int (zI ((p0 : Int)))), (3, .int (zI ((e0 : Int)))), (4, .int (zI (tc_lev b p0))), (6, .int (zI (x))), (7, .int (zI ((i : Int))))]) hx hb dX0_height_137 hl (by decide) rfl (fun ls hl => ?_)
            refine lv_iload hx hb dX0_height_139 (lv_at hl 0 rfl) ?_
            refine lv_iload hx hb dX0_height_141 (lv_at hl 7 rfl) ?_
            suffices kM : ro_G p l e s m below meth c yX0_height cX0_height 9 (some .int) rmX0_height [.ref (A 0), .int (zI ((tc_cnt b p0 : Int)))] (fun r => tc_S n b (tc_Rheight n b) (zI ((tc_cnt b p0 : Int))) r) (F0 m 153 ls [.int (zI (max (tc_lev b (i + 1)) x))]) by
              refine z_icmp_le (tgt := 151) hx hb dX0_height_143 (by decide) (⟨by omega, by omega⟩) (⟨by omega, by omega⟩) (fun hc2 => ?_) (fun hc2 => ?_)
              · refine lv_iload hx hb dX0_height_151 (lv_at hl 7 rfl) ?_
                exact z_set (by omega) kM
              · refine lv_iload hx hb dX0_height_146 (lv_at hl 0 rfl) ?_
                refine lv_goto (tgt := 153) hx hb dX0_height_148 (by decide) ?_
                exact z_set (by omega) kM
            refine lv_istore (lv' := [(6, .int (zI (max (tc_lev b (i + 1)) x))), (5, .int (zI (tc_lev b (i + 1)))), (8, .int (zI (((i / 8 : Nat) : Int)))), (0, .ref (A 0)), (1, .int (zI ((tc_cnt b p0 : Int)))), (2, .int (zI ((p0 : Int)))), (3, .int (zI ((e0 : Int)))), (4, .int (zI (tc_lev b p0))), (7, .int (zI ((i : Int))))]) hx hb dX0_height_153 hl (by decide) rfl (fun ls hl => ?_)
            refine lv_iinc (v := zI (((i + 1 : Nat) : Int))) (lv' := [(7, .int (zI (((i + 1 : Nat) : Int)))), (6, .int (zI (max (tc_lev b (i + 1)) x))), (5, .int (zI (tc_lev b (i + 1)))), (8, .int (zI (((i / 8 : Nat) : Int)))), (0, .ref (A 0)), (1, .int (zI ((tc_cnt b p0 : Int)))), (2, .int (zI ((p0 : Int)))), (3, .int (zI ((e0 : Int)))), (4, .int (zI (tc_lev b p0)))]) hx hb dX0_height_155 hl (k := 8) rfl (zI_inc (by omega)) (by decide) rfl (fun ls hl => ?_)
            refine lv_goto (tgt := 40) hx hb dX0_height_158 (by decide) ?_
            refine ih (i + 1) (max (tc_lev b (i + 1)) x) (by omega) (by omega) (by omega) ⟨by omega, by omega⟩ (fun j a c => ?_) ?_ ls (lv_sub hl [4, 5, 6, 7, 8, 2, 1, 0] rfl)
            · by_cases ej : j = i + 1
              · rw [ej]; omega
              · have := h5 j a (by omega); omega
            · by_cases ex : x ≤ tc_lev b (i + 1)
              · exact Or.inr ⟨i + 1, by omega, by omega, by omega⟩
              · rcases h6 with h6 | ⟨j, a, c, e⟩
                · exact Or.inl (by omega)
                · exact Or.inr ⟨j, a, by omega, by omega⟩
          refine lv_iload hx hb dX0_height_53 (lv_at hl 8 rfl) ?_
          refine lv_bipush (v := zI 8) hx hb dX0_height_55 (by decide) ?_
          refine z_irem (a := i) hx hb (by omega) dX0_height_57 ?_
          refine z_if_ne (tgt := 120) hx hb dX0_height_58 (by decide) (⟨by omega, by omega⟩) (fun hc2 => ?_) (fun hc2 => ?_)
          · exact k120
          · refine lv_iload hx hb dX0_height_61 (lv_at hl 8 rfl) ?_
            refine lv_bipush (v := zI 8) hx hb dX0_height_63 (by decide) ?_
            refine z_iadd hx hb dX0_height_65 ?_
            refine lv_iload_n hx hb dX0_height_66 rfl (lv_at hl 4 rfl) ?_
            refine z_icmp_gt (tgt := 120) hx hb dX0_height_67 (by decide) (⟨by omega, by omega⟩) (⟨by omega, by omega⟩) (fun hc3 => ?_) (fun hc3 => ?_)
            · exact k120
            · have e8 : 8 * (i / 8) = i := by omega
              have hbk := hB (i / 8) (i + 8) (by omega) (by omega) (by omega) (by omega)
              unfold tc_blk at hbk
              rw [e8] at hbk
              obtain ⟨_, hri, _, ⟨u, hu, hu1, y, hy1, hy2, hy3⟩⟩ := hbk
              have ly1 := tc_lev_le b y
              have ly2 := tc_lev_ge b y
              refine lv_iload hx hb dX0_height_70 (lv_at hl 6 rfl) ?_
              refine lv_aload_n hx hb dX0_height_72 rfl (lv_at hl 1 rfl) ?_
              refine va_get (D := D) (ci := 0) (v := .ref (A 4)) (C := RX0) (T := TX0) (N := 6) hx hb hts in_X0 hown hK hP 0 rfl rfl 5 (by decide) (hts _ q31) (fun _ h9 => h9) rfl dX0_height_73 ?_
              refine lv_iload hx hb dX0_height_76 (lv_at hl 0 rfl) ?_
              refine z_bald hx hb hK hP 4 3 rfl rfl (k := i / 8) (by omega) (by decide) (v := (zI (u))) (hu) dX0_height_78 ?_
              refine z_iadd hx hb dX0_height_79 ?_
              refine z_set (y := tc_lev b y) (by omega) ?_
              refine lv_iload hx hb dX0_height_80 (lv_at hl 7 rfl) ?_
              suffices kM : ro_G p l e s m below meth c yX0_height cX0_height 9 (some .int) rmX0_height [.ref (A 0), .int (zI ((tc_cnt b p0 : Int)))] (fun r => tc_S n b (tc_Rheight n b) (zI ((tc_cnt b p0 : Int))) r) (F0 m 100 ls [.int (zI (max (tc_lev b y) x))]) by
                refine z_icmp_le (tgt := 98) hx hb dX0_height_82 (by decide) (⟨by omega, by omega⟩) (⟨by omega, by omega⟩) (fun hc4 => ?_) (fun hc4 => ?_)
                · refine lv_iload hx hb dX0_height_98 (lv_at hl 7 rfl) ?_
                  exact z_set (by omega) kM
                · refine lv_iload hx hb dX0_height_85 (lv_at hl 6 rfl) ?_
                  refine lv_aload_n hx hb dX0_height_87 rfl (lv_at hl 1 rfl) ?_
                  refine va_get (D := D) (ci := 0) (v := .ref (A 4)) (C := RX0) (T := TX0) (N := 6) hx hb hts in_X0 hown hK hP 0 rfl rfl 5 (by decide) (hts _ q31) (fun _ h9 => h9) rfl dX0_height_88 ?_
                  refine lv_iload hx hb dX0_height_91 (lv_at hl 0 rfl) ?_
                  refine z_bald hx hb hK hP 4 3 rfl rfl (k := i / 8) (by omega) (by decide) (v := (zI (u))) (hu) dX0_height_93 ?_
                  refine z_iadd hx hb dX0_height_94 ?_
                  refine lv_goto (tgt := 100) hx hb dX0_height_95 (by decide) ?_
                  exact z_set (by omega) kM
              refine lv_istore (lv' := [(6, .int (zI (max (tc_lev b y) x))), (8, .int (zI (((i / 8 : Nat) : Int)))), (0, .ref (A 0)), (1, .int (zI ((tc_cnt b p0 : Int)))), (2, .int (zI ((p0 : Int)))), (3, .int (zI ((e0 : Int)))), (4, .int (zI (tc_lev b p0))), (5, .int (zI (tc_lev b i))), (7, .int (zI ((i : Int))))]) hx hb dX0_height_100 hl (by decide) rfl (fun ls hl => ?_)
              refine lv_iload hx hb dX0_height_102 (lv_at hl 7 rfl) ?_
              refine lv_aload_n hx hb dX0_height_104 rfl (lv_at hl 2 rfl) ?_
              refine va_get (D := D) (ci := 0) (v := .ref (A 2)) (C := RX0) (T := TX0) (N := 6) hx hb hts in_X0 hown hK hP 0 rfl rfl 3 (by decide) (hts _ q29) (fun _ h9 => h9) rfl dX0_height_105 ?_
              refine lv_iload hx hb dX0_height_108 (lv_at hl 1 rfl) ?_
              refine z_bald hx hb hK hP 2 1 rfl rfl (k := i / 8) (by omega) (by decide) (v := (zI (tc_lev b (i + 8) - tc_lev b i))) (hri) dX0_height_110 ?_
              refine z_iadd hx hb dX0_height_111 ?_
              refine z_set (y := tc_lev b (i + 8)) (by omega) ?_
              refine lv_istore (lv' := [(5, .int (zI (tc_lev b (i + 8)))), (6, .int (zI (max (tc_lev b y) x))), (8, .int (zI (((i / 8 : Nat) : Int)))), (0, .ref (A 0)), (1, .int (zI ((tc_cnt b p0 : Int)))), (2, .int (zI ((p0 : Int)))), (3, .int (zI ((e0 : Int)))), (4, .int (zI (tc_lev b p0))), (7, .int (zI ((i : Int))))]) hx hb dX0_height_112 hl (by decide) rfl (fun ls hl => ?_)
              refine lv_iinc (v := zI (((i + 8 : Nat) : Int))) (lv' := [(7, .int (zI (((i + 8 : Nat) : Int)))), (5, .int (zI (tc_lev b (i + 8)))), (6, .int (zI (max (tc_lev b y) x))), (8, .int (zI (((i / 8 : Nat) : Int)))), (0, .ref (A 0)), (1, .int (zI ((tc_cnt b p0 : Int)))), (2, .int (zI ((p0 : Int)))), (3, .int (zI ((e0 : Int)))), (4, .int (zI (tc_lev b p0)))]) hx hb dX0_height_114 hl (k := 8) rfl (zI_inc (by omega)) (by decide) rfl (fun ls hl => ?_)
              refine lv_goto (tgt := 158) hx hb dX0_height_117 (by decide) ?_
              refine lv_goto (tgt := 40) hx hb dX0_height_158 (by decide) ?_
              refine ih (i + 8) (max (tc_lev b y) x) (by omega) (by omega) (by omega) ⟨by omega, by omega⟩ (fun j a c => ?_) ?_ ls (lv_sub hl [4, 5, 6, 7, 8, 1, 2, 0] rfl)
              · rcases Nat.lt_or_ge i j with ej | ej
                · have := hu1 j ej c; omega
                · have := h5 j a ej; omega
              · by_cases ex : x ≤ tc_lev b y
                · exact Or.inr ⟨y, by omega, hy2, by omega⟩
                · rcases h6 with h6 | ⟨j, a, c, e⟩
                  · exact Or.inl (by omega)
                  · exact Or.inr ⟨j, a, by omega, by omega⟩
    exact loop (e0 + 1) p0 (tc_lev b p0) (by omega) (by omega) (by have := he.1; omega) ⟨by omega, by omega⟩ (fun j a c => by omega) (Or.inl rfl) ls (lv_sub hl [6, 7, 5, 4, 3, 2, 1, 0] rfl)
  · refine lv_iconst (v := zI (-1)) hx hb dX0_height_8 rfl ?_
    exact ro_ret hx hb hr hlocks (Or.inl ⟨hc, rfl⟩) dX0_height_9
abbrev rmX0_leavesBefore : Room := { frames := 4, cells := 0, slots := 0, locals := 86 }
set_option maxHeartbeats 4000000 in
set_option maxRecDepth 100000 in
theorem kX_leavesBefore (l : Launch) (D : va_G) (A : Nat → Nat) (d : Nat → ClassId) {w : Int64} {F : Nat → Nat → Int32} {n : Nat} {b : Nat → Bool} (hI : tc_xI n b w F) (z : Int) (hz : zs z) : ro_Met l yX0_leavesBefore cX0_leavesBefore 5 (some .int) rmX0_leavesBefore D (tc_xW A w (zI (n : Int)) d F) (tc_xT d) [.ref (A 0), .int (zI (z))] (fun r => tc_S n b (tc_Rleaves b) (zI z) r) := by
  refine ro_of (by decide) (Nat.le_of_ble_eq_true rfl) ?_
  intro p e s m below meth c ls C hl
  obtain ⟨hx, hb, hr, hml, hown, hts, hlocks, hP, hK⟩ := C
  have hown : s.vm.findClass RX0 = some m.cls := hown
  have hl : lv_has ls 5 [(0, .ref (A 0)), (1, .int (zI (z)))] := hl
  obtain ⟨hn, hok, hw, hB⟩ := id hI
  refine lv_aload_n hx hb dX0_leavesBefore_0 rfl (lv_at hl 0 rfl) ?_
  refine lv_iload_n hx hb dX0_leavesBefore_1 rfl (lv_at hl 1 rfl) ?_
  refine ro_call (n := 1) hx hb hml hown hts (kX_isNode l D A d hI z hz) (lw_V q93 q95 qs5 q16 q96) (by decide +kernel) ⟨Nat.le_of_ble_eq_true rfl, Nat.le_of_ble_eq_true rfl⟩ ⟨rfl, rfl⟩ hK hP rfl rfl rfl hl rfl (Nat.le_of_ble_eq_true rfl) dX0_leavesBefore_2 ⟨Nat.le_of_ble_eq_true rfl, Nat.le_of_ble_eq_true rfl⟩ (fun r2 hN => ?_)
  refine t_if_ne (tgt := 10) hx hb dX0_leavesBefore_5 (by decide) hN (fun hc => ?_) (fun hc => ?_)
  · obtain ⟨p0, hp1, hp2, hz0⟩ := tc_nd_ob hn hz hc
    subst hz0
    have hN0 : tc_isN n b p0 (zI (tc_cnt b p0 : Int)) := ⟨hp1, hp2, rfl⟩
    refine lv_aload_n hx hb dX0_leavesBefore_10 rfl (lv_at hl 0 rfl) ?_
    refine lv_iload_n hx hb dX0_leavesBefore_11 rfl (lv_at hl 1 rfl) ?_
    refine ro_calle (n := 1) hx hb hml hown hts (kX_placeOf l D A d hI p0 hp1 hp2) (lw_V q97 q99 qs6 q16 q100) (by decide +kernel) ⟨Nat.le_of_ble_eq_true rfl, Nat.le_of_ble_eq_true rfl⟩ ⟨rfl, rfl⟩ hK hP rfl rfl rfl hl rfl (Nat.le_of_ble_eq_true rfl) dX0_leavesBefore_12 ⟨Nat.le_of_ble_eq_true rfl, Nat.le_of_ble_eq_true rfl⟩ ?_
    refine lv_istore_n (lv' := [(2, .int (zI ((p0 : Int)))), (0, .ref (A 0)), (1, .int (zI ((tc_cnt b p0 : Int))))]) hx hb dX0_leavesBefore_15 rfl hl (by decide) rfl (fun ls hl => ?_)
    refine lv_iconst (v := zI 0) hx hb dX0_leavesBefore_16 rfl ?_
    refine lv_istore_n (lv' := [(3, .int (zI (0))), (2, .int (zI ((p0 : Int)))), (0, .ref (A 0)), (1, .int (zI ((tc_cnt b p0 : Int))))]) hx hb dX0_leavesBefore_17 rfl hl (by decide) rfl (fun ls hl => ?_)
    refine lv_iconst (v := zI 0) hx hb dX0_leavesBefore_18 rfl ?_
    refine lv_istore (lv' := [(4, .int (zI (0))), (3, .int (zI (0))), (2, .int (zI ((p0 : Int)))), (0, .ref (A 0)), (1, .int (zI ((tc_cnt b p0 : Int))))]) hx hb dX0_leavesBefore_19 hl (by decide) rfl (fun ls hl => ?_)
    have loop : ∀ (f : Nat) (i : Nat), 65 ≤ i + f → (i = 0 ∨ i + 1 ≤ p0) → ∀ (ls : Array Slot), lv_has ls 5 [(0, .ref (A 0)), (1, .int (zI ((tc_cnt b p0 : Int)))), (2, .int (zI ((p0 : Int)))), (3, .int (zI ((tc_num (tc_lf b) i : Int)))), (4, .int (zI ((i : Int))))] → ro_G p l e s m below meth c yX0_leavesBefore cX0_leavesBefore 5 (some .int) rmX0_leavesBefore [.ref (A 0), .int (zI ((tc_cnt b p0 : Int)))] (fun r => tc_S n b (tc_Rleaves b) (zI ((tc_cnt b p0 : Int))) r) (F0 m 21 ls []) := by
      intro f
      induction f with
      | zero => intro i h1 h2; exact absurd h1 (by omega)
      | succ f ih =>
        intro i h1 h2 ls hl
        refine lv_iload hx hb dX0_leavesBefore_21 (lv_at hl 4 rfl) ?_
        refine lv_iconst (v := zI 1) hx hb dX0_leavesBefore_23 rfl ?_
        refine z_iadd hx hb dX0_leavesBefore_24 ?_
        refine lv_iload_n hx hb dX0_leavesBefore_25 rfl (lv_at hl 2 rfl) ?_
        refine z_icmp_ge (tgt := 63) hx hb dX0_leavesBefore_26 (by decide) (⟨by omega, by omega⟩) (⟨by omega, by omega⟩) (fun hc => ?_) (fun hc => ?_)
        · have en : tc_num (tc_lf b) p0 = tc_num (tc_lf b) i := by
            by_cases e : i = p0
            · rw [e]
            · rw [show p0 = i + 1 by omega]
              refine tc_num_f (fun q => ?_)
              have q2 := q.2
              rw [show i + 1 = p0 by omega, hp2] at q2
              cases q2
          refine lv_iload_n hx hb dX0_leavesBefore_63 rfl (lv_at hl 3 rfl) ?_
          exact ro_ret hx hb hr hlocks (Or.inr ⟨p0, _, hN0, rfl, by rw [en]⟩) dX0_leavesBefore_64
        · refine lv_iload_n hx hb dX0_leavesBefore_29 rfl (lv_at hl 3 rfl) ?_
          refine lv_aload_n hx hb dX0_leavesBefore_30 rfl (lv_at hl 0 rfl) ?_
          refine lv_iload hx hb dX0_leavesBefore_31 (lv_at hl 4 rfl) ?_
          refine ro_call (n := 1) hx hb hml hown hts (kX_opensAt l D A d hI i (by omega)) (lw_V q54 q56 qs1 q16 q57) (by decide +kernel) ⟨Nat.le_of_ble_eq_true rfl, Nat.le_of_ble_eq_true rfl⟩ ⟨rfl, rfl⟩ hK hP rfl rfl rfl hl rfl (Nat.le_of_ble_eq_true rfl) dX0_leavesBefore_33 ⟨Nat.le_of_ble_eq_true rfl, Nat.le_of_ble_eq_true rfl⟩ (fun r33 hO => ?_)
          suffices kM : ro_G p l e s m below meth c yX0_leavesBefore cX0_leavesBefore 5 (some .int) rmX0_leavesBefore [.ref (A 0), .int (zI ((tc_cnt b p0 : Int)))] (fun r => tc_S n b (tc_Rleaves b) (zI ((tc_cnt b p0 : Int))) r) (F0 m 55 ls [.int (zI ((tc_one (tc_lf b i) : Int))), .int (zI ((tc_num (tc_lf b) i : Int)))]) by
            refine t_if_eq (tgt := 54) hx hb dX0_leavesBefore_36 (by decide) hO (fun hc2 => ?_) (fun hc2 => ?_)
            · refine lv_iconst (v := zI 0) hx hb dX0_leavesBefore_54 rfl ?_
              exact z_set (by rw [tc_one_f (fun q => hc2 q.1)]; rfl) kM
            · refine lv_aload_n hx hb dX0_leavesBefore_39 rfl (lv_at hl 0 rfl) ?_
              refine lv_iload hx hb dX0_leavesBefore_40 (lv_at hl 4 rfl) ?_
              refine lv_iconst (v := zI 1) hx hb dX0_leavesBefore_42 rfl ?_
              refine z_iadd hx hb dX0_leavesBefore_43 ?_
              refine z_set (y := ((i + 1 : Nat) : Int)) (by omega) ?_
              refine ro_call (n := 1) hx hb hml hown hts (kX_opensAt l D A d hI (i + 1) (by omega)) (lw_V q54 q56 qs1 q16 q57) (by decide +kernel) ⟨Nat.le_of_ble_eq_true rfl, Nat.le_of_ble_eq_true rfl⟩ ⟨rfl, rfl⟩ hK hP rfl rfl rfl hl rfl (Nat.le_of_ble_eq_true rfl) dX0_leavesBefore_44 ⟨Nat.le_of_ble_eq_true rfl, Nat.le_of_ble_eq_true rfl⟩ (fun r44 hO2 => ?_)
              refine t_if_ne (tgt := 54) hx hb dX0_leavesBefore_47 (by decide) hO2 (fun hc3 => ?_) (fun hc3 => ?_)
              · refine lv_iconst (v := zI 0) hx hb dX0_leavesBefore_54 rfl ?_
                exact z_set (by rw [tc_one_f (fun q => by rw [q.2] at hc3; cases hc3)]; rfl) kM
              · refine lv_iconst (v := zI 1) hx hb dX0_leavesBefore_50 rfl ?_
                refine lv_goto (tgt := 55) hx hb dX0_leavesBefore_51 (by decide) ?_
                exact z_set (by rw [tc_one_t ⟨hc2, ts_nt hc3⟩]; rfl) kM
          refine z_iadd hx hb dX0_leavesBefore_55 ?_
          refine z_set (y := (tc_num (tc_lf b) (i + 1) : Int)) (by rw [tc_num_s]; omega) ?_
          refine lv_istore_n (lv' := [(3, .int (zI ((tc_num (tc_lf b) (i + 1) : Int)))), (0, .ref (A 0)), (1, .int (zI ((tc_cnt b p0 : Int)))), (2, .int (zI ((p0 : Int)))), (4, .int (zI ((i : Int))))]) hx hb dX0_leavesBefore_56 rfl hl (by decide) rfl (fun ls hl => ?_)
          refine lv_iinc (v := zI (((i + 1 : Nat) : Int))) (lv' := [(4, .int (zI (((i + 1 : Nat) : Int)))), (3, .int (zI ((tc_num (tc_lf b) (i + 1) : Int)))), (0, .ref (A 0)), (1, .int (zI ((tc_cnt b p0 : Int)))), (2, .int (zI ((p0 : Int))))]) hx hb dX0_leavesBefore_57 hl (k := 4) rfl (zI_inc (by omega)) (by decide) rfl (fun ls hl => ?_)
          refine lv_goto (tgt := 21) hx hb dX0_leavesBefore_60 (by decide) ?_
          exact ih (i + 1) (by omega) (by omega) ls (lv_sub hl [2, 3, 4, 1, 0] rfl)
    exact loop 65 0 (by omega) (Or.inl rfl) ls (lv_sub hl [3, 4, 2, 1, 0] rfl)
  · refine lv_iconst (v := zI (-1)) hx hb dX0_leavesBefore_8 rfl ?_
    exact ro_ret hx hb hr hlocks (Or.inl ⟨hc, rfl⟩) dX0_leavesBefore_9
abbrev rmX0_meet : Room := { frames := 5, cells := 0, slots := 0, locals := 118 }
set_option maxHeartbeats 4000000 in
set_option maxRecDepth 100000 in
theorem kX_meet (l : Launch) (D : va_G) (A : Nat → Nat) (d : Nat → ClassId) {w : Int64} {F : Nat → Nat → Int32} {n : Nat} {b : Nat → Bool} (hI : tc_xI n b w F) (z : Int) (hz : zs z) (y : Int) (hy : zs y) : ro_Met l yX0_meet cX0_meet 9 (some .int) rmX0_meet D (tc_xW A w (zI (n : Int)) d F) (tc_xT d) [.ref (A 0), .int (zI (z)), .int (zI (y))] (fun r => tc_Smeet n b (zI z) (zI y) r) := by
  refine ro_of (by decide) (Nat.le_of_ble_eq_true rfl) ?_
  intro p e s m below meth c ls C hl
  obtain ⟨hx, hb, hr, hml, hown, hts, hlocks, hP, hK⟩ := C
  have hown : s.vm.findClass RX0 = some m.cls := hown
  have hl : lv_has ls 9 [(0, .ref (A 0)), (1, .int (zI (z))), (2, .int (zI (y)))] := hl
  obtain ⟨hn, hok, hw, hB⟩ := id hI
  refine lv_aload_n hx hb dX0_meet_0 rfl (lv_at hl 0 rfl) ?_
  refine lv_iload_n hx hb dX0_meet_1 rfl (lv_at hl 1 rfl) ?_
  refine ro_call (n := 1) hx hb hml hown hts (kX_isNode l D A d hI z hz) (lw_V q93 q95 qs5 q16 q96) (by decide +kernel) ⟨Nat.le_of_ble_eq_true rfl, Nat.le_of_ble_eq_true rfl⟩ ⟨rfl, rfl⟩ hK hP rfl rfl rfl hl rfl (Nat.le_of_ble_eq_true rfl) dX0_meet_2 ⟨Nat.le_of_ble_eq_true rfl, Nat.le_of_ble_eq_true rfl⟩ (fun r2 hN => ?_)
  refine t_if_eq (tgt := 16) hx hb dX0_meet_5 (by decide) hN (fun hc => ?_) (fun hc => ?_)
  · refine lv_iconst (v := zI (-1)) hx hb dX0_meet_16 rfl ?_
    exact ro_ret hx hb hr hlocks (Or.inl ⟨fun q => hc q.1, rfl⟩) dX0_meet_17
  · refine lv_aload_n hx hb dX0_meet_8 rfl (lv_at hl 0 rfl) ?_
    refine lv_iload_n hx hb dX0_meet_9 rfl (lv_at hl 2 rfl) ?_
    refine ro_call (n := 1) hx hb hml hown hts (kX_isNode l D A d hI y hy) (lw_V q93 q95 qs5 q16 q96) (by decide +kernel) ⟨Nat.le_of_ble_eq_true rfl, Nat.le_of_ble_eq_true rfl⟩ ⟨rfl, rfl⟩ hK hP rfl rfl rfl hl rfl (Nat.le_of_ble_eq_true rfl) dX0_meet_10 ⟨Nat.le_of_ble_eq_true rfl, Nat.le_of_ble_eq_true rfl⟩ (fun r10 hN2 => ?_)
    refine t_if_ne (tgt := 18) hx hb dX0_meet_13 (by decide) hN2 (fun hc2 => ?_) (fun hc2 => ?_)
    · obtain ⟨p0, hp1, hp2, hz0⟩ := tc_nd_ob hn hz hc
      subst hz0
      obtain ⟨q0, hq1, hq2, hy0⟩ := tc_nd_ob hn hy hc2
      subst hy0
      obtain ⟨f0, s0, hfs, hf1, hf2, hs1, hs2, ha1, ha2, hcom⟩ : ∃ f0 s0 : Nat, f0 ≤ s0 ∧ f0 < n ∧ b f0 = true ∧ s0 < n ∧ b s0 = true ∧ ((tc_cnt b q0 : Int) ≤ (tc_cnt b p0 : Int) → f0 = q0 ∧ s0 = p0) ∧ ((tc_cnt b p0 : Int) < (tc_cnt b q0 : Int) → f0 = p0 ∧ s0 = q0) ∧ ∀ x, tc_Rmeet b f0 s0 x → tc_Rmeet b p0 q0 x := by
        rcases Nat.lt_or_ge p0 q0 with h | h
        · have c1 := tc_cnt_lt hp2 h
          exact ⟨p0, q0, by omega, hp1, hp2, hq1, hq2, fun q => by omega, fun _ => ⟨rfl, rfl⟩, fun _ q => q⟩
        · have c1 := tc_cnt_mono (b := b) h
          exact ⟨q0, p0, h, hq1, hq2, hp1, hp2, fun _ => ⟨rfl, rfl⟩, fun q => by omega, fun _ q => tc_meet_comm q⟩
      have cp := tc_cnt_le b p0
      have cq := tc_cnt_le b q0
      have cf := tc_cnt_le b f0
      have cs := tc_cnt_le b s0
      have lf1 := tc_lev_le b f0
      have lf0 := hok f0 (by omega)
      refine lv_iload_n hx hb dX0_meet_18 rfl (lv_at hl 1 rfl) ?_
      refine lv_iload_n hx hb dX0_meet_19 rfl (lv_at hl 2 rfl) ?_
      suffices kM : ro_G p l e s m below meth c yX0_meet cX0_meet 9 (some .int) rmX0_meet [.ref (A 0), .int (zI ((tc_cnt b p0 : Int))), .int (zI ((tc_cnt b q0 : Int)))] (fun r => tc_Smeet n b (zI ((tc_cnt b p0 : Int))) (zI ((tc_cnt b q0 : Int))) r) (F0 m 28 ls [.int (zI ((tc_cnt b f0 : Int)))]) by
        refine z_icmp_ge (tgt := 27) hx hb dX0_meet_20 (by decide) (⟨by omega, by omega⟩) (⟨by omega, by omega⟩) (fun hc3 => ?_) (fun hc3 => ?_)
        · refine lv_iload_n hx hb dX0_meet_27 rfl (lv_at hl 2 rfl) ?_
          exact z_set (by rw [(ha1 hc3).1]) kM
        · refine lv_iload_n hx hb dX0_meet_23 rfl (lv_at hl 1 rfl) ?_
          refine lv_goto (tgt := 28) hx hb dX0_meet_24 (by decide) ?_
          exact z_set (by rw [(ha2 hc3).1]) kM
      refine lv_istore_n (lv' := [(3, .int (zI ((tc_cnt b f0 : Int)))), (0, .ref (A 0)), (1, .int (zI ((tc_cnt b p0 : Int)))), (2, .int (zI ((tc_cnt b q0 : Int))))]) hx hb dX0_meet_28 rfl hl (by decide) rfl (fun ls hl => ?_)
      refine lv_iload_n hx hb dX0_meet_29 rfl (lv_at hl 2 rfl) ?_
      refine lv_iload_n hx hb dX0_meet_30 rfl (lv_at hl 3 rfl) ?_
      suffices kM : ro_G p l e s m below meth c yX0_meet cX0_meet 9 (some .int) rmX0_meet [.ref (A 0), .int (zI ((tc_cnt b p0 : Int))), .int (zI ((tc_cnt b q0 : Int)))] (fun r => tc_Smeet n b (zI ((tc_cnt b p0 : Int))) (zI ((tc_cnt b q0 : Int))) r) (F0 m 39 ls [.int (zI ((tc_cnt b s0 : Int)))]) by
        refine z_icmp_ge (tgt := 38) hx hb dX0_meet_31 (by decide) (⟨by omega, by omega⟩) (⟨by omega, by omega⟩) (fun hc3 => ?_) (fun hc3 => ?_)
        · refine lv_iload_n hx hb dX0_meet_38 rfl (lv_at hl 2 rfl) ?_
          exact z_set (by rw [(ha1 hc3).2]) kM
        · refine lv_iload_n hx hb dX0_meet_34 rfl (lv_at hl 3 rfl) ?_
          refine lv_goto (tgt := 39) hx hb dX0_meet_35 (by decide) ?_
          exact z_set (by rw [(ha2 hc3).2]) kM
      refine lv_istore (lv' := [(4, .int (zI ((tc_cnt b s0 : Int)))), (3, .int (zI ((tc_cnt b f0 : Int)))), (0, .ref (A 0)), (1, .int (zI ((tc_cnt b p0 : Int)))), (2, .int (zI ((tc_cnt b q0 : Int))))]) hx hb dX0_meet_39 hl (by decide) rfl (fun ls hl => ?_)
      refine lv_aload_n hx hb dX0_meet_41 rfl (lv_at hl 2 rfl) ?_
      refine lv_iload_n hx hb dX0_meet_42 rfl (lv_at hl 1 rfl) ?_
      refine ro_calle (n := 1) hx hb hml hown hts (kX_placeOf l D A d hI f0 hf1 hf2) (lw_V q97 q99 qs6 q16 q100) (by decide +kernel) ⟨Nat.le_of_ble_eq_true rfl, Nat.le_of_ble_eq_true rfl⟩ ⟨rfl, rfl⟩ hK hP rfl rfl rfl hl rfl (Nat.le_of_ble_eq_true rfl) dX0_meet_43 ⟨Nat.le_of_ble_eq_true rfl, Nat.le_of_ble_eq_true rfl⟩ ?_
      refine lv_istore (lv' := [(5, .int (zI ((f0 : Int)))), (4, .int (zI ((tc_cnt b s0 : Int)))), (3, .int (zI ((tc_cnt b f0 : Int)))), (0, .ref (A 0)), (1, .int (zI ((tc_cnt b p0 : Int)))), (2, .int (zI ((tc_cnt b q0 : Int))))]) hx hb dX0_meet_46 hl (by decide) rfl (fun ls hl => ?_)
      refine lv_aload_n hx hb dX0_meet_48 rfl (lv_at hl 3 rfl) ?_
      refine lv_iload hx hb dX0_meet_49 (lv_at hl 1 rfl) ?_
      refine ro_calle (n := 1) hx hb hml hown hts (kX_placeOf l D A d hI s0 hs1 hs2) (lw_V q97 q99 qs6 q16 q100) (by decide +kernel) ⟨Nat.le_of_ble_eq_true rfl, Nat.le_of_ble_eq_true rfl⟩ ⟨rfl, rfl⟩ hK hP rfl rfl rfl hl rfl (Nat.le_of_ble_eq_true rfl) dX0_meet_51 ⟨Nat.le_of_ble_eq_true rfl, Nat.le_of_ble_eq_true rfl⟩ ?_
      refine lv_istore (lv' := [(6, .int (zI ((s0 : Int)))), (5, .int (zI ((f0 : Int)))), (4, .int (zI ((tc_cnt b s0 : Int)))), (3, .int (zI ((tc_cnt b f0 : Int)))), (0, .ref (A 0)), (1, .int (zI ((tc_cnt b p0 : Int)))), (2, .int (zI ((tc_cnt b q0 : Int))))]) hx hb dX0_meet_54 hl (by decide) rfl (fun ls hl => ?_)
      refine lv_aload_n hx hb dX0_meet_56 rfl (lv_at hl 4 rfl) ?_
      refine lv_iload hx hb dX0_meet_57 (lv_at hl 1 rfl) ?_
      refine ro_calle (n := 1) hx hb hml hown hts (kX_levelBefore l D A d hI f0 (by omega)) (lw_V q74 q76 qs3 q16 q77) (by decide +kernel) ⟨Nat.le_of_ble_eq_true rfl, Nat.le_of_ble_eq_true rfl⟩ ⟨rfl, rfl⟩ hK hP rfl rfl rfl hl rfl (Nat.le_of_ble_eq_true rfl) dX0_meet_59 ⟨Nat.le_of_ble_eq_true rfl, Nat.le_of_ble_eq_true rfl⟩ ?_
      refine lv_istore (lv' := [(7, .int (zI (tc_lev b f0))), (6, .int (zI ((s0 : Int)))), (5, .int (zI ((f0 : Int)))), (4, .int (zI ((tc_cnt b s0 : Int)))), (3, .int (zI ((tc_cnt b f0 : Int)))), (0, .ref (A 0)), (1, .int (zI ((tc_cnt b p0 : Int)))), (2, .int (zI ((tc_cnt b q0 : Int))))]) hx hb dX0_meet_62 hl (by decide) rfl (fun ls hl => ?_)
      refine lv_aload_n hx hb dX0_meet_64 rfl (lv_at hl 5 rfl) ?_
      refine lv_iload hx hb dX0_meet_65 (lv_at hl 2 rfl) ?_
      refine lv_iload hx hb dX0_meet_67 (lv_at hl 1 rfl) ?_
      refine ro_call (n := 2) hx hb hml hown hts (kX_leastBetween l D A d hI f0 s0 hfs (by omega)) (lw_V q143 q145 qs10 q16 q146) (by decide +kernel) ⟨Nat.le_of_ble_eq_true rfl, Nat.le_of_ble_eq_true rfl⟩ ⟨rfl, rfl⟩ hK hP rfl rfl rfl hl rfl (Nat.le_of_ble_eq_true rfl) dX0_meet_69 ⟨Nat.le_of_ble_eq_true rfl, Nat.le_of_ble_eq_true rfl⟩ (fun r69 hL => ?_)
      obtain ⟨x, rfl, hx0, hx1, hx2⟩ := hL
      refine lv_istore (lv' := [(8, .int (zI (x))), (7, .int (zI (tc_lev b f0))), (6, .int (zI ((s0 : Int)))), (5, .int (zI ((f0 : Int)))), (4, .int (zI ((tc_cnt b s0 : Int)))), (3, .int (zI ((tc_cnt b f0 : Int)))), (0, .ref (A 0)), (1, .int (zI ((tc_cnt b p0 : Int)))), (2, .int (zI ((tc_cnt b q0 : Int))))]) hx hb dX0_meet_72 hl (by decide) rfl (fun ls hl => ?_)
      refine lv_iload hx hb dX0_meet_74 (lv_at hl 0 rfl) ?_
      refine lv_iload hx hb dX0_meet_76 (lv_at hl 1 rfl) ?_
      refine z_icmp_gt (tgt := 87) hx hb dX0_meet_78 (by decide) (hx0) (⟨by omega, by omega⟩) (fun hc3 => ?_) (fun hc3 => ?_)
      · refine lv_iload_n hx hb dX0_meet_87 rfl (lv_at hl 5 rfl) ?_
        refine lv_goto (tgt := 100) hx hb dX0_meet_88 (by decide) ?_
        exact ro_ret hx hb hr hlocks (Or.inr ⟨p0, q0, _, ⟨hp1, hp2, rfl⟩, ⟨hq1, hq2, rfl⟩, hcom _ (tc_meet_1 hfs hf2 hx1 (Or.inl hc3)), rfl⟩) dX0_meet_100
      · refine lv_iload_n hx hb dX0_meet_81 rfl (lv_at hl 5 rfl) ?_
        refine lv_iload hx hb dX0_meet_82 (lv_at hl 4 rfl) ?_
        refine z_icmp_ne (tgt := 91) hx hb dX0_meet_84 (by decide) (⟨by omega, by omega⟩) (⟨by omega, by omega⟩) (fun hc4 => ?_) (fun hc4 => ?_)
        · have hne : f0 < s0 := by
            rcases Nat.lt_or_ge f0 s0 with q | q
            · exact q
            · exact absurd (by rw [show f0 = s0 by omega]) hc4
          have xb : zs (x - 1) := by
            rcases hx2 with h | ⟨j, a, c, d⟩
            · exact ⟨by omega, by omega⟩
            · have := tc_lev_le b j; have := tc_lev_ge b j; exact ⟨by omega, by omega⟩
          refine lv_aload_n hx hb dX0_meet_91 rfl (lv_at hl 6 rfl) ?_
          refine lv_iload_n hx hb dX0_meet_92 rfl (lv_at hl 5 rfl) ?_
          refine lv_iload hx hb dX0_meet_93 (lv_at hl 0 rfl) ?_
          refine lv_iconst (v := zI 1) hx hb dX0_meet_95 rfl ?_
          refine z_isub hx hb dX0_meet_96 ?_
          refine ro_call (n := 2) hx hb hml hown hts (kX_aboveAt l D A d hI (tc_cnt b f0 : Int) ⟨by omega, by omega⟩ (x - 1) xb) (lw_V q147 q148 q149 q16 q150) (by decide +kernel) ⟨Nat.le_of_ble_eq_true rfl, Nat.le_of_ble_eq_true rfl⟩ ⟨rfl, rfl⟩ hK hP rfl rfl rfl hl rfl (Nat.le_of_ble_eq_true rfl) dX0_meet_97 ⟨Nat.le_of_ble_eq_true rfl, Nat.le_of_ble_eq_true rfl⟩ (fun rx hX => ?_)
          obtain ⟨x2, hx3, rfl⟩ := tc_S_at hn hf1 hf2 hX
          exact ro_ret hx hb hr hlocks (Or.inr ⟨p0, q0, _, ⟨hp1, hp2, rfl⟩, ⟨hq1, hq2, rfl⟩, hcom _ (tc_meet_2 hok hne hs1 hn xb hc3 hx1 hx2 hx3), rfl⟩) dX0_meet_100
        · have hne : f0 = s0 := tc_inj hf2 hs2 (by omega)
          refine lv_iload_n hx hb dX0_meet_87 rfl (lv_at hl 5 rfl) ?_
          refine lv_goto (tgt := 100) hx hb dX0_meet_88 (by decide) ?_
          exact ro_ret hx hb hr hlocks (Or.inr ⟨p0, q0, _, ⟨hp1, hp2, rfl⟩, ⟨hq1, hq2, rfl⟩, hcom _ (tc_meet_1 hfs hf2 hx1 (Or.inr hne)), rfl⟩) dX0_meet_100
    · refine lv_iconst (v := zI (-1)) hx hb dX0_meet_16 rfl ?_
      exact ro_ret hx hb hr hlocks (Or.inl ⟨fun q => hc2 q.2, rfl⟩) dX0_meet_17
end
section
/-! rows for writing arrays by number; plain laws of pushing and popping a bracket -/
section TCW
variable {p : Program} {l : Launch} {e : Env} {R : Room} {s : State} {m : MethodId} {args : Array Value} {below : List Frame} {meth : Method} {c : Code} {H H0 : Heap} {locs : List Loc} {cells slots : Nat} {Q : State → Prop} {cc : ByteArray} {pc : Nat} {ls : Array Slot} {rest : List Value}
variable {D : va_G} {cl : List vw_C} {tys : List (ClassId × FieldType)} {ws : va_W} {a : Nat} {A : Nat → Prop}
theorem z_bast (hx : p.tables.exec = Jvm.exec) (hb : c.code = cc) (hK : va_K D cl tys s) (hP : va_P D cl ws H) (hD : va_D A ws) (hS : va_S A H0 H locs) (q0 t0 : Nat) {cA : ClassId} {n : Nat} {f : Nat → Int32} (ha : ws[q0]? = some (a, .inl (cA, n, .inl f))) (ht : tys[t0]? = some (cA, .byte)) {k : Nat} (hk : k < n) (hn : n < 2 ^ 31) {x y : Int32} (hxy : vp_nar .byte x = y) (hdg : decode cc pc = .ok (.bastore, 1))
    (kk : ∀ (H1 : Heap) (locs1 : List Loc), va_P D cl (ws.set q0 (a, .inl (cA, n, .inl (upd f k y)))) H1 → va_D A (ws.set q0 (a, .inl (cA, n, .inl (upd f k y)))) → va_S A H0 H1 locs1 → W p l e R s m args below meth c H1 locs1 cells slots Q (F0 m (pc + 1) ls rest)) : W p l e R s m args below meth c H locs cells slots Q (F0 m pc ls (.int x :: .int (zI (k : Int)) :: .ref a :: rest)) := by
  refine va_bast hx hb hK hP hD hS q0 t0 ha ht (zI_in hk hn) hdg ?_
  rw [zI_cl (show k < 2 ^ 31 by omega), hxy]
  exact kk
theorem z_zast (hx : p.tables.exec = Jvm.exec) (hb : c.code = cc) (hK : va_K D cl tys s) (hP : va_P D cl ws H) (hD : va_D A ws) (hS : va_S A H0 H locs) (q0 t0 : Nat) {cA : ClassId} {n : Nat} {f : Nat → Int32} (ha : ws[q0]? = some (a, .inl (cA, n, .inl f))) (ht : tys[t0]? = some (cA, .boolean)) {k : Nat} (hk : k < n) (hn : n < 2 ^ 31) {x y : Int32} (hxy : vp_nar .boolean x = y) (hdg : decode cc pc = .ok (.bastore, 1))
    (kk : ∀ (H1 : Heap) (locs1 : List Loc), va_P D cl (ws.set q0 (a, .inl (cA, n, .inl (upd f k y)))) H1 → va_D A (ws.set q0 (a, .inl (cA, n, .inl (upd f k y)))) → va_S A H0 H1 locs1 → W p l e R s m args below meth c H1 locs1 cells slots Q (F0 m (pc + 1) ls rest)) : W p l e R s m args below meth c H locs cells slots Q (F0 m pc ls (.int x :: .int (zI (k : Int)) :: .ref a :: rest)) := by
  refine va_zast hx hb hK hP hD hS q0 t0 ha ht (zI_in hk hn) hdg ?_
  rw [zI_cl (show k < 2 ^ 31 by omega), hxy]
  exact kk
theorem z_iast (hx : p.tables.exec = Jvm.exec) (hb : c.code = cc) (hK : va_K D cl tys s) (hP : va_P D cl ws H) (hD : va_D A ws) (hS : va_S A H0 H locs) (q0 t0 : Nat) {cA : ClassId} {n : Nat} {f : Nat → Int32} (ha : ws[q0]? = some (a, .inl (cA, n, .inl f))) (ht : tys[t0]? = some (cA, .int)) {k : Nat} (hk : k < n) (hn : n < 2 ^ 31) {x : Int32} (hdg : decode cc pc = .ok (.iastore, 1))
    (kk : ∀ (H1 : Heap) (locs1 : List Loc), va_P D cl (ws.set q0 (a, .inl (cA, n, .inl (upd f k x)))) H1 → va_D A (ws.set q0 (a, .inl (cA, n, .inl (upd f k x)))) → va_S A H0 H1 locs1 → W p l e R s m args below meth c H1 locs1 cells slots Q (F0 m (pc + 1) ls rest)) : W p l e R s m args below meth c H locs cells slots Q (F0 m pc ls (.int x :: .int (zI (k : Int)) :: .ref a :: rest)) := by
  refine va_iast hx hb hK hP hD hS q0 t0 ha ht (zI_in hk hn) hdg ?_
  rw [zI_cl (show k < 2 ^ 31 by omega)]
  exact kk
end TCW
theorem zI_b17 : ∀ k, k < 17 → (zI ((k : Nat) : Int) - zI 8).toInt8.toInt32 = zI ((k : Nat) : Int) - zI 8 := by decide +kernel
theorem zI_b {v : Int} (h1 : -8 ≤ v) (h2 : v ≤ 8) : (zI v).toInt8.toInt32 = zI v := by
  have e := zI_b17 (v + 8).toNat (by omega)
  rw [zI_sub, show (((v + 8).toNat : Nat) : Int) - 8 = v by omega] at e
  exact e
theorem zI_nar {v : Int} (h1 : -8 ≤ v) (h2 : v ≤ 8) : vp_nar .byte (zI v) = zI v := by rw [vp_nar_byte]; exact zI_b h1 h2
theorem tc_lip {b : Nat → Bool} {i j : Nat} (h : i ≤ j) : tc_lev b j - tc_lev b i ≤ (j : Int) - (i : Int) ∧ tc_lev b i - tc_lev b j ≤ (j : Int) - (i : Int) := by
  induction h with
  | refl => omega
  | @step k hk ih =>
    have hk : i ≤ k := hk
    rw [show k.succ = k + 1 from rfl]
    rcases tc_lev_1 b k with ⟨u, v⟩ | ⟨u, v⟩ <;> omega
theorem tc_clip {b : Nat → Bool} {i j : Nat} (h : i ≤ j) : tc_cnt b j ≤ tc_cnt b i + (j - i) := by
  induction h with
  | refl => omega
  | @step k hk ih =>
    have hk : i ≤ k := hk
    cases hb : b k
    · rw [tc_cnt_f hb]; omega
    · rw [tc_cnt_t hb]; omega
/-- four rows of numbers as one table -/
def tc_F4 (f0 f1 f2 f3 : Nat → Int32) : Nat → Nat → Int32
  | 0 => f0
  | 1 => f1
  | 2 => f2
  | _ => f3
theorem tc_F4_keep {F : Nat → Nat → Int32} {k : Nat} {x0 x1 x2 x3 : Int32} (j : Nat) (hj : j < 4) (i : Nat) (hi : i ≠ k) : tc_F4 (upd (F 0) k x0) (upd (F 1) k x1) (upd (F 2) k x2) (upd (F 3) k x3) j i = F j i := by
  match j, hj with
  | 0, _ => exact pk_un hi
  | 1, _ => exact pk_un hi
  | 2, _ => exact pk_un hi
  | 3, _ => exact pk_un hi
/-- one more bracket -/
def tc_pu (b : Nat → Bool) (n : Nat) (x : Bool) : Nat → Bool := fun i => if i = n then x else b i
theorem tc_pu_n (b : Nat → Bool) (n : Nat) (x : Bool) : tc_pu b n x n = x := by unfold tc_pu; exact if_pos rfl
theorem tc_pu_o (b : Nat → Bool) (n : Nat) (x : Bool) (i : Nat) (h : i < n) : tc_pu b n x i = b i := by unfold tc_pu; exact if_neg (by omega)
theorem tc_pu_cnt (b : Nat → Bool) (n : Nat) (x : Bool) (k : Nat) (h : k ≤ n) : tc_cnt (tc_pu b n x) k = tc_cnt b k := tc_cnt_cong (fun i hi => tc_pu_o b n x i hi) k h
theorem tc_pu_lev (b : Nat → Bool) (n : Nat) (x : Bool) (k : Nat) (h : k ≤ n) : tc_lev (tc_pu b n x) k = tc_lev b k := tc_lev_cong (fun i hi => tc_pu_o b n x i hi) k h
theorem tc_ok_pu {n : Nat} {b : Nat → Bool} (hok : tc_ok n b) (x : Bool) (hx : x = true ∨ 0 < tc_lev b n) : tc_ok (n + 1) (tc_pu b n x) := by
  intro i hi
  by_cases e : i = n + 1
  · have h0 := hok n (Nat.le_refl n)
    rw [e, tc_lev_s, tc_pu_lev b n x n (Nat.le_refl n), tc_pu_n]
    cases x with
    | true => rw [tc_d_t]; omega
    | false =>
      rw [tc_d_f]
      rcases hx with h | h
      · cases h
      · omega
  · rw [tc_pu_lev b n x i (by omega)]
    exact hok i (by omega)
theorem tc_blk_cong {n : Nat} {b b' : Nat → Bool} (hb : ∀ i, i < n → b' i = b i) {F F' : Nat → Nat → Int32} {k m : Nat} (hk : 8 * k ≤ n) (hm : m ≤ n) (hF : ∀ j, j < 4 → F' j k = F j k) (h : tc_blk b F k m) : tc_blk b' F' k m := by
  have c := tc_cnt_cong hb
  have v := tc_lev_cong hb
  obtain ⟨h1, h2, ⟨u, u1, u2, x, u3, u4, u5⟩, ⟨y, y1, y2, z, y3, y4, y5⟩⟩ := h
  refine ⟨by rw [hF 0 (by omega), c m hm, c (8 * k) hk]; exact h1, by rw [hF 1 (by omega), v m hm, v (8 * k) hk]; exact h2, ⟨u, by rw [hF 2 (by omega)]; exact u1, fun i a d => ?_, x, u3, u4, ?_⟩, ⟨y, by rw [hF 3 (by omega)]; exact y1, fun i a d => ?_, z, y3, y4, ?_⟩⟩
  · rw [v i (by omega), v (8 * k) hk]; exact u2 i a d
  · rw [v x (by omega), v (8 * k) hk]; exact u5
  · rw [v i (by omega), v (8 * k) hk]; exact y2 i a d
  · rw [v z (by omega), v (8 * k) hk]; exact y5
def tc_newblk (n : Nat) (b : Nat → Bool) (F F' : Nat → Nat → Int32) (k : Nat) : Prop := (∀ j, j < 4 → ∀ i, i ≠ k → F' j i = F j i) ∧ ∀ m, 8 * k < m → m ≤ n → m ≤ 8 * k + 8 → (m = n ∨ m = 8 * k + 8) → tc_blk b F' k m
theorem tc_xI_push {n : Nat} {b : Nat → Bool} {w w' : Int64} {F F' : Nat → Nat → Int32} (hI : tc_xI n b w F) (x : Bool) (hn : n < 64) (hx : x = true ∨ 0 < tc_lev b n) (hw : ∀ i, i < n + 1 → w'.toBitVec.getLsbD i = tc_pu b n x i) (hF : tc_newblk (n + 1) (tc_pu b n x) F F' (n / 8)) : tc_xI (n + 1) (tc_pu b n x) w' F' := by
  obtain ⟨_, hok, _, hB⟩ := hI
  refine ⟨by omega, tc_ok_pu hok x hx, hw, fun k m h1 h2 h3 h4 => ?_⟩
  by_cases e : k = n / 8
  · subst e; exact hF.2 m h1 h2 h3 h4
  · exact tc_blk_cong (n := n) (fun i hi => tc_pu_o b n x i hi) (by omega) (by omega) (fun j hj => hF.1 j hj k e) (hB k m h1 (by omega) h3 (by omega))
theorem tc_xI_pop {n : Nat} {b : Nat → Bool} {w : Int64} {F F' : Nat → Nat → Int32} (hI : tc_xI n b w F) (hn : 0 < n) (hF : tc_newblk (n - 1) b F F' ((n - 1) / 8)) : tc_xI (n - 1) b w F' := by
  obtain ⟨h64, hok, hw, hB⟩ := hI
  refine ⟨by omega, fun i hi => hok i (by omega), fun i hi => hw i (by omega), fun k m h1 h2 h3 h4 => ?_⟩
  by_cases e : k = (n - 1) / 8
  · subst e; exact hF.2 m h1 h2 h3 h4
  · exact tc_blk_cong (n := n) (fun i _ => rfl) (by omega) (by omega) (fun j hj => hF.1 j hj k e) (hB k m h1 (by omega) h3 (by omega))
theorem tc_sh1 : ∀ k, k < 64 → ((1 : Int64) <<< ((nI k).toInt64 &&& 63)).toBitVec = BitVec.twoPow 64 k := by decide +kernel
theorem tc_w_or {n : Nat} {b : Nat → Bool} {w : Int64} (hn : n < 64) (hw : ∀ i, i < n → w.toBitVec.getLsbD i = b i) : ∀ i, i < n + 1 → (w ||| ((1 : Int64) <<< ((zI (n : Int)).toInt64 &&& 63))).toBitVec.getLsbD i = tc_pu b n true i := by
  intro i hi
  rw [← zI_n, Int64.toBitVec_or, tc_sh1 n hn, BitVec.getLsbD_or, BitVec.getLsbD_twoPow]
  by_cases e : i = n
  · subst e
    rw [tc_pu_n]
    simp [hn]
  · rw [tc_pu_o b n true i (by omega), hw i (by omega)]
    simp
    omega
theorem tc_w_and {n : Nat} {b : Nat → Bool} {w : Int64} (hn : n < 64) (hw : ∀ i, i < n → w.toBitVec.getLsbD i = b i) : ∀ i, i < n + 1 → (w &&& (((1 : Int64) <<< ((zI (n : Int)).toInt64 &&& 63)) ^^^ (-1))).toBitVec.getLsbD i = tc_pu b n false i := by
  intro i hi
  have ha : (-1 : Int64).toBitVec = BitVec.allOnes 64 := by decide
  rw [← zI_n, Int64.toBitVec_and, Int64.toBitVec_xor, tc_sh1 n hn, ha, BitVec.getLsbD_and, BitVec.getLsbD_xor, BitVec.getLsbD_twoPow, BitVec.getLsbD_allOnes]
  by_cases e : i = n
  · subst e
    rw [tc_pu_n]
    simp [hn]
  · rw [tc_pu_o b n false i (by omega), hw i (by omega)]
    have e2 : ¬ n = i := fun q => e q.symm
    have e3 : i < 64 := by omega
    simp [e2, e3]
-- ===== what the writing calls do =====
def tc_op (n : Nat) (b : Nat → Bool) (n' : Nat) (b' : Nat → Bool) (r : Int32) : Prop := (n = 64 ∧ n' = n ∧ b' = b ∧ r = zI (-2)) ∨ (n < 64 ∧ n' = n + 1 ∧ b' = tc_pu b n true ∧ r = zI (tc_cnt b n : Int))
def tc_cl (n : Nat) (b : Nat → Bool) (n' : Nat) (b' : Nat → Bool) (r : Int32) : Prop := (tc_lev b n = 0 ∧ n' = n ∧ b' = b ∧ r = zI (-1)) ∨ (tc_lev b n ≠ 0 ∧ n = 64 ∧ n' = n ∧ b' = b ∧ r = zI (-2)) ∨ (tc_lev b n ≠ 0 ∧ n < 64 ∧ n' = n + 1 ∧ b' = tc_pu b n false ∧ ∃ z, tc_tp b n z ∧ r = zI z)
def tc_un (n : Nat) (b : Nat → Bool) (n' : Nat) (b' : Nat → Bool) (r : Int32) : Prop := (n = 0 ∧ n' = n ∧ b' = b ∧ r = zI (-1)) ∨ (0 < n ∧ n' = n - 1 ∧ b' = b ∧ r = zI ((n - 1 : Nat) : Int))
theorem tc_op_u {n : Nat} {b : Nat → Bool} {n1 n2 : Nat} {b1 b2 : Nat → Bool} {r1 r2 : Int32} (h : tc_op n b n1 b1 r1) (h' : tc_op n b n2 b2 r2) : n2 = n1 ∧ b2 = b1 ∧ r2 = r1 := by
  rcases h with ⟨a1, a2, a3, a4⟩ | ⟨a1, a2, a3, a4⟩ <;> rcases h' with ⟨c1, c2, c3, c4⟩ | ⟨c1, c2, c3, c4⟩
  · exact ⟨by omega, by rw [a3, c3], by rw [a4, c4]⟩
  · omega
  · omega
  · exact ⟨by omega, by rw [a3, c3], by rw [a4, c4]⟩
theorem tc_cl_u {n : Nat} {b : Nat → Bool} (hok : tc_ok n b) {n1 n2 : Nat} {b1 b2 : Nat → Bool} {r1 r2 : Int32} (h : tc_cl n b n1 b1 r1) (h' : tc_cl n b n2 b2 r2) : n2 = n1 ∧ b2 = b1 ∧ r2 = r1 := by
  rcases h with ⟨a1, a2, a3, a4⟩ | ⟨a0, a1, a2, a3, a4⟩ | ⟨a0, a1, a2, a3, z, a4, a5⟩ <;> rcases h' with ⟨c1, c2, c3, c4⟩ | ⟨c0, c1, c2, c3, c4⟩ | ⟨c0, c1, c2, c3, z', c4, c5⟩
  · exact ⟨by omega, by rw [a3, c3], by rw [a4, c4]⟩
  · exact absurd a1 c0
  · exact absurd a1 c0
  · exact absurd c1 a0
  · exact ⟨by omega, by rw [a3, c3], by rw [a4, c4]⟩
  · omega
  · exact absurd c1 a0
  · omega
  · exact ⟨by omega, by rw [a3, c3], by rw [a5, c5, tc_tp_uniq hok (Nat.le_refl n) a4 c4]⟩
theorem tc_un_u {n : Nat} {b : Nat → Bool} {n1 n2 : Nat} {b1 b2 : Nat → Bool} {r1 r2 : Int32} (h : tc_un n b n1 b1 r1) (h' : tc_un n b n2 b2 r2) : n2 = n1 ∧ b2 = b1 ∧ r2 = r1 := by
  rcases h with ⟨a1, a2, a3, a4⟩ | ⟨a1, a2, a3, a4⟩ <;> rcases h' with ⟨c1, c2, c3, c4⟩ | ⟨c1, c2, c3, c4⟩
  · exact ⟨by omega, by rw [a3, c3], by rw [a4, c4]⟩
  · omega
  · omega
  · exact ⟨by omega, by rw [a3, c3], by rw [a4, c4]⟩
end
section
set_option maxHeartbeats 4000000 in
set_option maxRecDepth 100000 in
theorem kX_opensAtW (l : Launch) (D : va_G) (A : Nat → Nat) (d : Nat → ClassId) {w : Int64} {F : Nat → Nat → Int32} {n : Nat} {b : Nat → Bool} (hn : n ≤ 64) (hw : ∀ i, i < n → w.toBitVec.getLsbD i = b i) (i : Nat) (hi : i < n) : ro_Met l yX0_opensAt cX0_opensAt 2 (some .boolean) rmX0_opensAt D (tc_xW A w (zI (n : Int)) d F) (tc_xT d) [.ref (A 0), .int (zI ((i : Int)))] (fun r => tc_bit (b i = true) r) := by
  refine ro_of (by decide) (Nat.le_of_ble_eq_true rfl) ?_
  intro p e s m below meth c ls C hl
  obtain ⟨hx, hb, hr, hml, hown, hts, hlocks, hP, hK⟩ := C
  have hown : s.vm.findClass RX0 = some m.cls := hown
  have hl : lv_has ls 2 [(0, .ref (A 0)), (1, .int (zI ((i : Int))))] := hl
  refine lv_aload_n hx hb dX0_opensAt_0 rfl (lv_at hl 0 rfl) ?_
  refine va_get (D := D) (ci := 0) (v := .long (w)) (C := RX0) (T := TX0) (N := 6) hx hb hts in_X0 hown hK hP 0 rfl rfl 0 (by decide) (hts _ q26) (fun _ h9 => h9) rfl dX0_opensAt_1 ?_
  refine lv_iload_n hx hb dX0_opensAt_4 rfl (lv_at hl 1 rfl) ?_
  refine lv_lushr (v := (w.toUInt64 >>> ((zI (i : Int)).toInt64.toUInt64 &&& Int64.toUInt64 63)).toInt64) hx hb dX0_opensAt_5 rfl ?_
  refine lv_lconst (v := 1) hx hb dX0_opensAt_6 (by decide) ?_
  refine lv_land hx hb dX0_opensAt_7 ?_
  refine lv_lconst (v := 0) hx hb dX0_opensAt_8 (by decide) ?_
  refine W.lcmp hx hb dX0_opensAt_9 ?_
  refine lv_if_eq (tgt := 17) hx hb dX0_opensAt_10 (by decide) (fun hc => ?_) (fun hc => ?_)
  · have hf : b i = false := by rw [← hw i hi]; exact (tc_opens (by omega)).mp hc
    refine lv_iconst (v := zI 0) hx hb dX0_opensAt_17 rfl ?_
    exact ro_zret hx hb hr hlocks (by decide) (tc_bit_0 (by rw [hf]; decide)) dX0_opensAt_18
  · have hf : b i = true := by rw [← hw i hi]; exact ts_nf (fun q => hc ((tc_opens (by omega)).mpr q))
    refine lv_iconst (v := zI 1) hx hb dX0_opensAt_13 rfl ?_
    refine lv_goto (tgt := 18) hx hb dX0_opensAt_14 (by decide) ?_
    exact ro_zret hx hb hr hlocks (by decide) (tc_bit_1 hf) dX0_opensAt_18
abbrev rmX0_refresh : Room := { frames := 1, cells := 0, slots := 0, locals := 21 }
set_option maxHeartbeats 4000000 in
set_option maxRecDepth 100000 in
theorem kX_refresh (l : Launch) (D : va_G) (A : Nat → Nat) (d : Nat → ClassId) {w : Int64} {F : Nat → Nat → Int32} {n : Nat} {b : Nat → Bool} (hn : n ≤ 64) (hw : ∀ i, i < n → w.toBitVec.getLsbD i = b i) (P : Nat) (hP64 : P < 64) (k : Nat) (hk : k = P / 8) (sz : Nat) : mu_Met l yX0_refresh cX0_refresh 8 none rmX0_refresh D (tc_xW A w (zI (n : Int)) d F) (tc_xT d) sz [.ref (A 0), .int (zI ((P : Int)))] (mu_V (Nat → Nat → Int32) D (tc_xT d) (fun F1 => tc_xW A w (zI (n : Int)) d F1) (va_A (tc_xW A w (zI (n : Int)) d F) sz) (fun F1 => tc_newblk n b F F1 k)) := by
  refine mu_of (by decide) (Nat.le_of_ble_eq_true rfl) ?_
  intro p e s m below meth c ls C hl
  generalize va_A (tc_xW A w (zI (n : Int)) d F) sz = AA at C ⊢
  obtain ⟨hx, hb, hr, hml, hown, hts, hlocks, hP, hK, hD, hA, hS⟩ := C
  have hown : s.vm.findClass RX0 = some m.cls := hown
  have hl : lv_has ls 8 [(0, .ref (A 0)), (1, .int (zI ((P : Int))))] := hl
  have loop : ∀ (f : Nat) (i : Nat) (x y : Int), 8 * k + 9 ≤ i + f → 8 * k ≤ i → i ≤ 8 * k + 8 → (i ≤ n ∨ i = 8 * k) → (-8 ≤ x ∧ x ≤ 8) → (-8 ≤ y ∧ y ≤ 8) → (∀ j, 8 * k < j → j ≤ i → x ≤ tc_lev b j - tc_lev b (8 * k)) → (x = 8 ∨ ∃ j, 8 * k < j ∧ j ≤ i ∧ x = tc_lev b j - tc_lev b (8 * k)) → (∀ j, 8 * k < j → j ≤ i → tc_lev b j - tc_lev b (8 * k) ≤ y) → (y = -8 ∨ ∃ j, 8 * k < j ∧ j ≤ i ∧ y = tc_lev b j - tc_lev b (8 * k)) → ∀ (ls : Array Slot), lv_has ls 8 [(0, .ref (A 0)), (1, .int (zI ((P : Int)))), (2, .int (zI ((k : Int)))), (3, .int (zI (tc_lev b i - tc_lev b (8 * k)))), (4, .int (zI ((tc_cnt b i : Int) - (tc_cnt b (8 * k) : Int)))), (5, .int (zI (x))), (6, .int (zI (y))), (7, .int (zI ((i : Int))))] → mu_G p l e s m below meth c yX0_refresh cX0_refresh 8 none rmX0_refresh [.ref (A 0), .int (zI ((P : Int)))] (mu_V (Nat → Nat → Int32) D (tc_xT d) (fun F1 => tc_xW A w (zI (n : Int)) d F1) AA (fun F1 => tc_newblk n b F F1 k)) AA s.heap [] (F0 m 24 ls []) := by
    intro f
    induction f with
    | zero => intro i x y h1 h2 h3 h4 h5 h6 h7 h8 h9 h10; exact absurd h1 (by omega)
    | succ f ih =>
      intro i x y h1 h2 h3 h4 h5 h6 h7 h8 h9 h10 ls hl
      have lip := tc_lip (b := b) h2
      have clip := tc_clip (b := b) h2
      have cmo := tc_cnt_mono (b := b) h2
      have k115 : (8 * k + 8 ≤ i ∨ n ≤ i) → mu_G p l e s m below meth c yX0_refresh cX0_refresh 8 none rmX0_refresh [.ref (A 0), .int (zI ((P : Int)))] (mu_V (Nat → Nat → Int32) D (tc_xT d) (fun F1 => tc_xW A w (zI (n : Int)) d F1) AA (fun F1 => tc_newblk n b F F1 k)) AA s.heap [] (F0 m 115 ls []) := by
        intro hex
        refine lv_aload_n hx hb dX0_refresh_115 rfl (lv_at hl 0 rfl) ?_
        refine va_get (D := D) (ci := 0) (v := .ref (A 1)) (C := RX0) (T := TX0) (N := 6) hx hb hts in_X0 hown hK hP 0 rfl rfl 2 (by decide) (hts _ q28) (fun _ h9 => h9) rfl dX0_refresh_116 ?_
        refine lv_iload_n hx hb dX0_refresh_119 rfl (lv_at hl 2 rfl) ?_
        refine lv_iload hx hb dX0_refresh_120 (lv_at hl 4 rfl) ?_
        refine lv_i2b (v := zI ((tc_cnt b i : Int) - (tc_cnt b (8 * k) : Int))) hx hb dX0_refresh_122 (zI_b (by omega) (by omega)) ?_
        refine z_bast hx hb hK hP hD hS 1 0 rfl rfl (k := k) (by omega) (by decide) (y := zI ((tc_cnt b i : Int) - (tc_cnt b (8 * k) : Int))) (zI_nar (by omega) (by omega)) dX0_refresh_123 (fun H locs hP hD hS => ?_)
        have hP : va_P D tc_Cl (tc_xW A (w) (zI (n : Int)) d (tc_F4 (upd (F 0) k (zI ((tc_cnt b i : Int) - (tc_cnt b (8 * k) : Int)))) (F 1) (F 2) (F 3))) H := hP
        have hD : va_D AA (tc_xW A (w) (zI (n : Int)) d (tc_F4 (upd (F 0) k (zI ((tc_cnt b i : Int) - (tc_cnt b (8 * k) : Int)))) (F 1) (F 2) (F 3))) := hD
        refine lv_aload_n hx hb dX0_refresh_124 rfl (lv_at hl 0 rfl) ?_
        refine va_get (D := D) (ci := 0) (v := .ref (A 2)) (C := RX0) (T := TX0) (N := 6) hx hb hts in_X0 hown hK hP 0 rfl rfl 3 (by decide) (hts _ q29) (fun _ h9 => h9) rfl dX0_refresh_125 ?_
        refine lv_iload_n hx hb dX0_refresh_128 rfl (lv_at hl 2 rfl) ?_
        refine lv_iload_n hx hb dX0_refresh_129 rfl (lv_at hl 3 rfl) ?_
        refine lv_i2b (v := zI (tc_lev b i - tc_lev b (8 * k))) hx hb dX0_refresh_130 (zI_b (by omega) (by omega)) ?_
        refine z_bast hx hb hK hP hD hS 2 1 rfl rfl (k := k) (by omega) (by decide) (y := zI (tc_lev b i - tc_lev b (8 * k))) (zI_nar (by omega) (by omega)) dX0_refresh_131 (fun H locs hP hD hS => ?_)
        have hP : va_P D tc_Cl (tc_xW A (w) (zI (n : Int)) d (tc_F4 (upd (F 0) k (zI ((tc_cnt b i : Int) - (tc_cnt b (8 * k) : Int)))) (upd (F 1) k (zI (tc_lev b i - tc_lev b (8 * k)))) (F 2) (F 3))) H := hP
        have hD : va_D AA (tc_xW A (w) (zI (n : Int)) d (tc_F4 (upd (F 0) k (zI ((tc_cnt b i : Int) - (tc_cnt b (8 * k) : Int)))) (upd (F 1) k (zI (tc_lev b i - tc_lev b (8 * k)))) (F 2) (F 3))) := hD
        refine lv_aload_n hx hb dX0_refresh_132 rfl (lv_at hl 0 rfl) ?_
        refine va_get (D := D) (ci := 0) (v := .ref (A 3)) (C := RX0) (T := TX0) (N := 6) hx hb hts in_X0 hown hK hP 0 rfl rfl 4 (by decide) (hts _ q30) (fun _ h9 => h9) rfl dX0_refresh_133 ?_
        refine lv_iload_n hx hb dX0_refresh_136 rfl (lv_at hl 2 rfl) ?_
        refine lv_iload hx hb dX0_refresh_137 (lv_at hl 5 rfl) ?_
        refine lv_i2b (v := zI (x)) hx hb dX0_refresh_139 (zI_b (by omega) (by omega)) ?_
        refine z_bast hx hb hK hP hD hS 3 2 rfl rfl (k := k) (by omega) (by decide) (y := zI (x)) (zI_nar (by omega) (by omega)) dX0_refresh_140 (fun H locs hP hD hS => ?_)
        have hP : va_P D tc_Cl (tc_xW A (w) (zI (n : Int)) d (tc_F4 (upd (F 0) k (zI ((tc_cnt b i : Int) - (tc_cnt b (8 * k) : Int)))) (upd (F 1) k (zI (tc_lev b i - tc_lev b (8 * k)))) (upd (F 2) k (zI (x))) (F 3))) H := hP
        have hD : va_D AA (tc_xW A (w) (zI (n : Int)) d (tc_F4 (upd (F 0) k (zI ((tc_cnt b i : Int) - (tc_cnt b (8 * k) : Int)))) (upd (F 1) k (zI (tc_lev b i - tc_lev b (8 * k)))) (upd (F 2) k (zI (x))) (F 3))) := hD
        refine lv_aload_n hx hb dX0_refresh_141 rfl (lv_at hl 0 rfl) ?_
        refine va_get (D := D) (ci := 0) (v := .ref (A 4)) (C := RX0) (T := TX0) (N := 6) hx hb hts in_X0 hown hK hP 0 rfl rfl 5 (by decide) (hts _ q31) (fun _ h9 => h9) rfl dX0_refresh_142 ?_
        refine lv_iload_n hx hb dX0_refresh_145 rfl (lv_at hl 2 rfl) ?_
        refine lv_iload hx hb dX0_refresh_146 (lv_at hl 6 rfl) ?_
        refine lv_i2b (v := zI (y)) hx hb dX0_refresh_148 (zI_b (by omega) (by omega)) ?_
        refine z_bast hx hb hK hP hD hS 4 3 rfl rfl (k := k) (by omega) (by decide) (y := zI (y)) (zI_nar (by omega) (by omega)) dX0_refresh_149 (fun H locs hP hD hS => ?_)
        have hP : va_P D tc_Cl (tc_xW A (w) (zI (n : Int)) d (tc_F4 (upd (F 0) k (zI ((tc_cnt b i : Int) - (tc_cnt b (8 * k) : Int)))) (upd (F 1) k (zI (tc_lev b i - tc_lev b (8 * k)))) (upd (F 2) k (zI (x))) (upd (F 3) k (zI (y))))) H := hP
        have hD : va_D AA (tc_xW A (w) (zI (n : Int)) d (tc_F4 (upd (F 0) k (zI ((tc_cnt b i : Int) - (tc_cnt b (8 * k) : Int)))) (upd (F 1) k (zI (tc_lev b i - tc_lev b (8 * k)))) (upd (F 2) k (zI (x))) (upd (F 3) k (zI (y))))) := hD
        refine mu_vret (u := tc_F4 (upd (F 0) k (zI ((tc_cnt b i : Int) - (tc_cnt b (8 * k) : Int)))) (upd (F 1) k (zI (tc_lev b i - tc_lev b (8 * k)))) (upd (F 2) k (zI (x))) (upd (F 3) k (zI (y)))) hx hb hr hlocks hP hK hD hS ⟨fun j hj i hi => tc_F4_keep j hj i hi, fun mm a1 a2 a3 a4 => ?_⟩ dX0_refresh_150
        have em : mm = i := by clear h8 h10; omega
        subst em
        have s1 := tc_lip (b := b) (i := 8 * k) (j := 8 * k + 1) (by omega)
        have x0 := h7 (8 * k + 1) (by omega) (by omega)
        have y0 := h9 (8 * k + 1) (by omega) (by omega)
        refine ⟨pk_us, pk_us, ⟨x, pk_us, h7, ?_⟩, ⟨y, pk_us, h9, ?_⟩⟩
        · rcases h8 with h | ⟨j, a, c, e⟩
          · omega
          · exact ⟨j, a, c, e⟩
        · rcases h10 with h | ⟨j, a, c, e⟩
          · omega
          · exact ⟨j, a, c, e⟩
      refine lv_iload hx hb dX0_refresh_24 (lv_at hl 7 rfl) ?_
      refine lv_iload_n hx hb dX0_refresh_26 rfl (lv_at hl 2 rfl) ?_
      refine lv_bipush (v := zI 8) hx hb dX0_refresh_27 (by decide) ?_
      refine z_imul hx hb dX0_refresh_29 ?_
      refine lv_bipush (v := zI 8) hx hb dX0_refresh_30 (by decide) ?_
      refine z_iadd hx hb dX0_refresh_32 ?_
      refine z_icmp_ge (tgt := 115) hx hb dX0_refresh_33 (by decide) (⟨by omega, by omega⟩) (⟨by omega, by omega⟩) (fun hc => ?_) (fun hc => ?_)
      · exact k115 (Or.inl (by omega))
      · refine lv_iload hx hb dX0_refresh_36 (lv_at hl 7 rfl) ?_
        refine lv_aload_n hx hb dX0_refresh_38 rfl (lv_at hl 0 rfl) ?_
        refine va_get (D := D) (ci := 0) (v := .int (zI ((n : Int)))) (C := RX0) (T := TX0) (N := 6) hx hb hts in_X0 hown hK hP 0 rfl rfl 1 (by decide) (hts _ q27) (fun _ h9 => h9) rfl dX0_refresh_39 ?_
        refine z_icmp_ge (tgt := 115) hx hb dX0_refresh_42 (by decide) (⟨by omega, by omega⟩) (⟨by omega, by omega⟩) (fun hc2 => ?_) (fun hc2 => ?_)
        · exact k115 (Or.inr (by omega))
        · have lip2 := tc_lip (b := b) (i := 8 * k) (j := i + 1) (by omega)
          refine lv_iload_n hx hb dX0_refresh_45 rfl (lv_at hl 3 rfl) ?_
          refine lv_aload_n hx hb dX0_refresh_46 rfl (lv_at hl 0 rfl) ?_
          refine lv_iload hx hb dX0_refresh_47 (lv_at hl 7 rfl) ?_
          refine ro_call (n := 1) hx hb hml hown hts (kX_opensAtW l D A d hn hw (i) (by omega)) (lw_V q54 q56 qs1 q16 q57) (by decide +kernel) ⟨Nat.le_of_ble_eq_true rfl, Nat.le_of_ble_eq_true rfl⟩ ⟨rfl, rfl⟩ hK hP rfl rfl rfl hl rfl (Nat.le_of_ble_eq_true rfl) dX0_refresh_49 ⟨Nat.le_of_ble_eq_true rfl, Nat.le_of_ble_eq_true rfl⟩ (fun r49 hO => ?_)
          suffices kM : mu_G p l e s m below meth c yX0_refresh cX0_refresh 8 none rmX0_refresh [.ref (A 0), .int (zI ((P : Int)))] (mu_V (Nat → Nat → Int32) D (tc_xT d) (fun F1 => tc_xW A w (zI (n : Int)) d F1) AA (fun F1 => tc_newblk n b F F1 k)) AA s.heap [] (F0 m 60 ls [.int (zI (tc_d (b (i)))), .int (zI (tc_lev b i - tc_lev b (8 * k)))]) by
            refine t_if_eq (tgt := 59) hx hb dX0_refresh_52 (by decide) hO (fun hc => ?_) (fun hc => ?_)
            · refine lv_iconst (v := zI (-1)) hx hb dX0_refresh_59 rfl ?_
              exact z_set (by rw [ts_nt hc]; rfl) kM
            · refine lv_iconst (v := zI 1) hx hb dX0_refresh_55 rfl ?_
              refine lv_goto (tgt := 60) hx hb dX0_refresh_56 (by decide) ?_
              exact z_set (by rw [hc]; rfl) kM
          refine z_iadd hx hb dX0_refresh_60 ?_
          refine z_set (y := tc_lev b (i + 1) - tc_lev b (8 * k)) (by rw [tc_lev_s]; omega) ?_
          refine lv_istore_n (lv' := [(3, .int (zI (tc_lev b (i + 1) - tc_lev b (8 * k)))), (0, .ref (A 0)), (1, .int (zI ((P : Int)))), (2, .int (zI ((k : Int)))), (4, .int (zI ((tc_cnt b i : Int) - (tc_cnt b (8 * k) : Int)))), (5, .int (zI (x))), (6, .int (zI (y))), (7, .int (zI ((i : Int))))]) hx hb dX0_refresh_61 rfl hl (by decide) rfl (fun ls hl => ?_)
          refine lv_iload hx hb dX0_refresh_62 (lv_at hl 4 rfl) ?_
          refine lv_aload_n hx hb dX0_refresh_64 rfl (lv_at hl 1 rfl) ?_
          refine lv_iload hx hb dX0_refresh_65 (lv_at hl 7 rfl) ?_
          refine ro_call (n := 1) hx hb hml hown hts (kX_opensAtW l D A d hn hw (i) (by omega)) (lw_V q54 q56 qs1 q16 q57) (by decide +kernel) ⟨Nat.le_of_ble_eq_true rfl, Nat.le_of_ble_eq_true rfl⟩ ⟨rfl, rfl⟩ hK hP rfl rfl rfl hl rfl (Nat.le_of_ble_eq_true rfl) dX0_refresh_67 ⟨Nat.le_of_ble_eq_true rfl, Nat.le_of_ble_eq_true rfl⟩ (fun r67 hO => ?_)
          suffices kM : mu_G p l e s m below meth c yX0_refresh cX0_refresh 8 none rmX0_refresh [.ref (A 0), .int (zI ((P : Int)))] (mu_V (Nat → Nat → Int32) D (tc_xT d) (fun F1 => tc_xW A w (zI (n : Int)) d F1) AA (fun F1 => tc_newblk n b F F1 k)) AA s.heap [] (F0 m 78 ls [.int (zI ((tc_o (b (i)) : Int))), .int (zI ((tc_cnt b i : Int) - (tc_cnt b (8 * k) : Int)))]) by
            refine t_if_eq (tgt := 77) hx hb dX0_refresh_70 (by decide) hO (fun hc => ?_) (fun hc => ?_)
            · refine lv_iconst (v := zI 0) hx hb dX0_refresh_77 rfl ?_
              exact z_set (by rw [ts_nt hc]; rfl) kM
            · refine lv_iconst (v := zI 1) hx hb dX0_refresh_73 rfl ?_
              refine lv_goto (tgt := 78) hx hb dX0_refresh_74 (by decide) ?_
              exact z_set (by rw [hc]; rfl) kM
          refine z_iadd hx hb dX0_refresh_78 ?_
          refine z_set (y := (tc_cnt b (i + 1) : Int) - (tc_cnt b (8 * k) : Int)) (by rw [tc_cnt_s]; omega) ?_
          refine lv_istore (lv' := [(4, .int (zI ((tc_cnt b (i + 1) : Int) - (tc_cnt b (8 * k) : Int)))), (3, .int (zI (tc_lev b (i + 1) - tc_lev b (8 * k)))), (0, .ref (A 0)), (1, .int (zI ((P : Int)))), (2, .int (zI ((k : Int)))), (5, .int (zI (x))), (6, .int (zI (y))), (7, .int (zI ((i : Int))))]) hx hb dX0_refresh_79 hl (by decide) rfl (fun ls hl => ?_)
          refine lv_iload_n hx hb dX0_refresh_81 rfl (lv_at hl 1 rfl) ?_
          refine lv_iload hx hb dX0_refresh_82 (lv_at hl 5 rfl) ?_
          suffices kM : mu_G p l e s m below meth c yX0_refresh cX0_refresh 8 none rmX0_refresh [.ref (A 0), .int (zI ((P : Int)))] (mu_V (Nat → Nat → Int32) D (tc_xT d) (fun F1 => tc_xW A w (zI (n : Int)) d F1) AA (fun F1 => tc_newblk n b F F1 k)) AA s.heap [] (F0 m 93 ls [.int (zI (min (tc_lev b (i + 1) - tc_lev b (8 * k)) x))]) by
            refine z_icmp_ge (tgt := 91) hx hb dX0_refresh_84 (by decide) (⟨by omega, by omega⟩) (⟨by omega, by omega⟩) (fun hc3 => ?_) (fun hc3 => ?_)
            · refine lv_iload hx hb dX0_refresh_91 (lv_at hl 5 rfl) ?_
              exact z_set (by omega) kM
            · refine lv_iload_n hx hb dX0_refresh_87 rfl (lv_at hl 1 rfl) ?_
              refine lv_goto (tgt := 93) hx hb dX0_refresh_88 (by decide) ?_
              exact z_set (by omega) kM
          refine lv_istore (lv' := [(5, .int (zI (min (tc_lev b (i + 1) - tc_lev b (8 * k)) x))), (4, .int (zI ((tc_cnt b (i + 1) : Int) - (tc_cnt b (8 * k) : Int)))), (3, .int (zI (tc_lev b (i + 1) - tc_lev b (8 * k)))), (0, .ref (A 0)), (1, .int (zI ((P : Int)))), (2, .int (zI ((k : Int)))), (6, .int (zI (y))), (7, .int (zI ((i : Int))))]) hx hb dX0_refresh_93 hl (by decide) rfl (fun ls hl => ?_)
          refine lv_iload_n hx hb dX0_refresh_95 rfl (lv_at hl 2 rfl) ?_
          refine lv_iload hx hb dX0_refresh_96 (lv_at hl 6 rfl) ?_
          suffices kM : mu_G p l e s m below meth c yX0_refresh cX0_refresh 8 none rmX0_refresh [.ref (A 0), .int (zI ((P : Int)))] (mu_V (Nat → Nat → Int32) D (tc_xT d) (fun F1 => tc_xW A w (zI (n : Int)) d F1) AA (fun F1 => tc_newblk n b F F1 k)) AA s.heap [] (F0 m 107 ls [.int (zI (max (tc_lev b (i + 1) - tc_lev b (8 * k)) y))]) by
            refine z_icmp_le (tgt := 105) hx hb dX0_refresh_98 (by decide) (⟨by omega, by omega⟩) (⟨by omega, by omega⟩) (fun hc3 => ?_) (fun hc3 => ?_)
            · refine lv_iload hx hb dX0_refresh_105 (lv_at hl 6 rfl) ?_
              exact z_set (by omega) kM
            · refine lv_iload_n hx hb dX0_refresh_101 rfl (lv_at hl 2 rfl) ?_
              refine lv_goto (tgt := 107) hx hb dX0_refresh_102 (by decide) ?_
              exact z_set (by omega) kM
          refine lv_istore (lv' := [(6, .int (zI (max (tc_lev b (i + 1) - tc_lev b (8 * k)) y))), (5, .int (zI (min (tc_lev b (i + 1) - tc_lev b (8 * k)) x))), (4, .int (zI ((tc_cnt b (i + 1) : Int) - (tc_cnt b (8 * k) : Int)))), (3, .int (zI (tc_lev b (i + 1) - tc_lev b (8 * k)))), (0, .ref (A 0)), (1, .int (zI ((P : Int)))), (2, .int (zI ((k : Int)))), (7, .int (zI ((i : Int))))]) hx hb dX0_refresh_107 hl (by decide) rfl (fun ls hl => ?_)
          refine lv_iinc (v := zI (((i + 1 : Nat) : Int))) (lv' := [(7, .int (zI (((i + 1 : Nat) : Int)))), (6, .int (zI (max (tc_lev b (i + 1) - tc_lev b (8 * k)) y))), (5, .int (zI (min (tc_lev b (i + 1) - tc_lev b (8 * k)) x))), (4, .int (zI ((tc_cnt b (i + 1) : Int) - (tc_cnt b (8 * k) : Int)))), (3, .int (zI (tc_lev b (i + 1) - tc_lev b (8 * k)))), (0, .ref (A 0)), (1, .int (zI ((P : Int)))), (2, .int (zI ((k : Int))))]) hx hb dX0_refresh_109 hl (k := 7) rfl (zI_inc (by omega)) (by decide) rfl (fun ls hl => ?_)
          refine lv_goto (tgt := 24) hx hb dX0_refresh_112 (by decide) ?_
          refine ih (i + 1) (min (tc_lev b (i + 1) - tc_lev b (8 * k)) x) (max (tc_lev b (i + 1) - tc_lev b (8 * k)) y) (by omega) (by omega) (by omega) (Or.inl (by omega)) ⟨by omega, by omega⟩ ⟨by omega, by omega⟩ (fun j a c => ?_) ?_ (fun j a c => ?_) ?_ ls (lv_sub hl [5, 6, 7, 4, 3, 2, 1, 0] rfl)
          · by_cases ej : j = i + 1
            · rw [ej]; omega
            · have := h7 j a (by omega); omega
          · by_cases ex : tc_lev b (i + 1) - tc_lev b (8 * k) ≤ x
            · exact Or.inr ⟨i + 1, by omega, by omega, by omega⟩
            · rcases h8 with h | ⟨j, a, c, e⟩
              · exact Or.inl (by omega)
              · exact Or.inr ⟨j, a, by omega, by omega⟩
          · by_cases ej : j = i + 1
            · rw [ej]; omega
            · have := h9 j a (by omega); omega
          · by_cases ex : y ≤ tc_lev b (i + 1) - tc_lev b (8 * k)
            · exact Or.inr ⟨i + 1, by omega, by omega, by omega⟩
            · rcases h10 with h | ⟨j, a, c, e⟩
              · exact Or.inl (by omega)
              · exact Or.inr ⟨j, a, by omega, by omega⟩
  refine lv_iload_n hx hb dX0_refresh_0 rfl (lv_at hl 1 rfl) ?_
  refine lv_bipush (v := zI 8) hx hb dX0_refresh_1 (by decide) ?_
  refine z_idiv (a := P) hx hb (by omega) dX0_refresh_3 ?_
  refine z_set (y := (k : Int)) (by rw [hk]) ?_
  refine lv_istore_n (lv' := [(2, .int (zI ((k : Int)))), (0, .ref (A 0)), (1, .int (zI ((P : Int))))]) hx hb dX0_refresh_4 rfl hl (by decide) rfl (fun ls hl => ?_)
  refine lv_iconst (v := zI 0) hx hb dX0_refresh_5 rfl ?_
  refine z_set (y := tc_lev b (8 * k) - tc_lev b (8 * k)) (by omega) ?_
  refine lv_istore_n (lv' := [(3, .int (zI (tc_lev b (8 * k) - tc_lev b (8 * k)))), (2, .int (zI ((k : Int)))), (0, .ref (A 0)), (1, .int (zI ((P : Int))))]) hx hb dX0_refresh_6 rfl hl (by decide) rfl (fun ls hl => ?_)
  refine lv_iconst (v := zI 0) hx hb dX0_refresh_7 rfl ?_
  refine z_set (y := (tc_cnt b (8 * k) : Int) - (tc_cnt b (8 * k) : Int)) (by omega) ?_
  refine lv_istore (lv' := [(4, .int (zI ((tc_cnt b (8 * k) : Int) - (tc_cnt b (8 * k) : Int)))), (3, .int (zI (tc_lev b (8 * k) - tc_lev b (8 * k)))), (2, .int (zI ((k : Int)))), (0, .ref (A 0)), (1, .int (zI ((P : Int))))]) hx hb dX0_refresh_8 hl (by decide) rfl (fun ls hl => ?_)
  refine lv_bipush (v := zI 8) hx hb dX0_refresh_10 (by decide) ?_
  refine lv_istore (lv' := [(5, .int (zI (8))), (4, .int (zI ((tc_cnt b (8 * k) : Int) - (tc_cnt b (8 * k) : Int)))), (3, .int (zI (tc_lev b (8 * k) - tc_lev b (8 * k)))), (2, .int (zI ((k : Int)))), (0, .ref (A 0)), (1, .int (zI ((P : Int))))]) hx hb dX0_refresh_12 hl (by decide) rfl (fun ls hl => ?_)
  refine lv_bipush (v := zI (-8)) hx hb dX0_refresh_14 (by decide) ?_
  refine lv_istore (lv' := [(6, .int (zI ((-8)))), (5, .int (zI (8))), (4, .int (zI ((tc_cnt b (8 * k) : Int) - (tc_cnt b (8 * k) : Int)))), (3, .int (zI (tc_lev b (8 * k) - tc_lev b (8 * k)))), (2, .int (zI ((k : Int)))), (0, .ref (A 0)), (1, .int (zI ((P : Int))))]) hx hb dX0_refresh_16 hl (by decide) rfl (fun ls hl => ?_)
  refine lv_iload_n hx hb dX0_refresh_18 rfl (lv_at hl 4 rfl) ?_
  refine lv_bipush (v := zI 8) hx hb dX0_refresh_19 (by decide) ?_
  refine z_imul hx hb dX0_refresh_21 ?_
  refine z_set (y := ((8 * k : Nat) : Int)) (by omega) ?_
  refine lv_istore (lv' := [(7, .int (zI (((8 * k : Nat) : Int)))), (6, .int (zI ((-8)))), (5, .int (zI (8))), (4, .int (zI ((tc_cnt b (8 * k) : Int) - (tc_cnt b (8 * k) : Int)))), (3, .int (zI (tc_lev b (8 * k) - tc_lev b (8 * k)))), (2, .int (zI ((k : Int)))), (0, .ref (A 0)), (1, .int (zI ((P : Int))))]) hx hb dX0_refresh_22 hl (by decide) rfl (fun ls hl => ?_)
  exact loop 9 (8 * k) 8 (-8) (by omega) (by omega) (by omega) (Or.inr rfl) ⟨by omega, by omega⟩ ⟨by omega, by omega⟩ (fun j a c => by omega) (Or.inl rfl) (fun j a c => by omega) (Or.inl rfl) ls (lv_sub hl [6, 7, 5, 4, 3, 2, 1, 0] rfl)
abbrev rmX0_open : Room := { frames := 3, cells := 0, slots := 0, locals := 65 }
set_option maxHeartbeats 4000000 in
set_option maxRecDepth 100000 in
theorem kX_open (l : Launch) (D : va_G) (A : Nat → Nat) (d : Nat → ClassId) {w : Int64} {F : Nat → Nat → Int32} {n : Nat} {b : Nat → Bool} (hI : tc_xI n b w F) (sz : Nat) : mu_Met l yX0_open cX0_open 1 (some .int) rmX0_open D (tc_xW A w (zI (n : Int)) d F) (tc_xT d) sz [.ref (A 0)] (mu_Q (Int64 × Int32 × (Nat → Nat → Int32)) D (tc_xT d) (fun u => tc_xW A u.1 u.2.1 d u.2.2) (va_A (tc_xW A w (zI (n : Int)) d F) sz) (fun r u => ∃ n1 b1, u.2.1 = zI ((n1 : Nat) : Int) ∧ tc_xI n1 b1 u.1 u.2.2 ∧ tc_op n b n1 b1 r)) := by
  refine mu_of (by decide) (Nat.le_of_ble_eq_true rfl) ?_
  intro p e s m below meth c ls C hl
  generalize va_A (tc_xW A w (zI (n : Int)) d F) sz = AA at C ⊢
  obtain ⟨hx, hb, hr, hml, hown, hts, hlocks, hP, hK, hD, hA, hS⟩ := C
  have hown : s.vm.findClass RX0 = some m.cls := hown
  have hl : lv_has ls 1 [(0, .ref (A 0))] := hl
  obtain ⟨hn, hok, hw, hB⟩ := id hI
  refine lv_aload_n hx hb dX0_open_0 rfl (lv_at hl 0 rfl) ?_
  refine va_get (D := D) (ci := 0) (v := .int (zI ((n : Int)))) (C := RX0) (T := TX0) (N := 6) hx hb hts in_X0 hown hK hP 0 rfl rfl 1 (by decide) (hts _ q27) (fun _ h9 => h9) rfl dX0_open_1 ?_
  refine lv_bipush (v := zI 64) hx hb dX0_open_4 (by decide) ?_
  refine z_icmp_lt (tgt := 12) hx hb dX0_open_6 (by decide) (⟨by omega, by omega⟩) (⟨by omega, by omega⟩) (fun hc => ?_) (fun hc => ?_)
  · refine lv_aload_n hx hb dX0_open_12 rfl (lv_at hl 0 rfl) ?_
    refine lv_dup hx hb dX0_open_13 rfl ?_
    refine va_get (D := D) (ci := 0) (v := .long (w)) (C := RX0) (T := TX0) (N := 6) hx hb hts in_X0 hown hK hP 0 rfl rfl 0 (by decide) (hts _ q26) (fun _ h9 => h9) rfl dX0_open_14 ?_
    refine lv_lconst (v := 1) hx hb dX0_open_17 (by decide) ?_
    refine lv_aload_n hx hb dX0_open_18 rfl (lv_at hl 0 rfl) ?_
    refine va_get (D := D) (ci := 0) (v := .int (zI ((n : Int)))) (C := RX0) (T := TX0) (N := 6) hx hb hts in_X0 hown hK hP 0 rfl rfl 1 (by decide) (hts _ q27) (fun _ h9 => h9) rfl dX0_open_19 ?_
    refine lv_lshl (v := (1 : Int64) <<< ((zI (n : Int)).toInt64 &&& 63)) hx hb dX0_open_22 rfl ?_
    refine lv_lor hx hb dX0_open_23 ?_
    have hw1 := tc_w_or (by omega) hw
    generalize w ||| ((1 : Int64) <<< ((zI (n : Int)).toInt64 &&& 63)) = w1 at hw1 ⊢
    refine va_put (D := D) (ci := 0) (v := .long (w1)) (ty := .long) (C := RX0) (T := TX0) (N := 6) hx hb hts in_X0 tyX0 tyX0_ok nmX0 hown hK hP hD hS 0 rfl rfl 0 (by decide) (hts _ q26) (fun _ h9 => h9) rfl (by decide +kernel) rfl rfl (Nat.le_of_ble_eq_true rfl) dX0_open_24 (fun H locs hP hD hS => ?_)
    have hP : va_P D tc_Cl (tc_xW A (w1) (zI (n : Int)) d (F)) H := hP
    have hD : va_D AA (tc_xW A (w1) (zI (n : Int)) d (F)) := hD
    refine lv_aload_n hx hb dX0_open_27 rfl (lv_at hl 0 rfl) ?_
    refine lv_dup hx hb dX0_open_28 rfl ?_
    refine va_get (D := D) (ci := 0) (v := .int (zI ((n : Int)))) (C := RX0) (T := TX0) (N := 6) hx hb hts in_X0 hown hK hP 0 rfl rfl 1 (by decide) (hts _ q27) (fun _ h9 => h9) rfl dX0_open_29 ?_
    refine lv_iconst (v := zI 1) hx hb dX0_open_32 rfl ?_
    refine z_iadd hx hb dX0_open_33 ?_
    refine z_set (y := ((n + 1 : Nat) : Int)) (by omega) ?_
    refine va_put (D := D) (ci := 0) (v := .int (zI (((n + 1 : Nat) : Int)))) (ty := .int) (C := RX0) (T := TX0) (N := 6) hx hb hts in_X0 tyX0 tyX0_ok nmX0 hown hK hP hD hS 0 rfl rfl 1 (by decide) (hts _ q27) (fun _ h9 => h9) rfl (by decide +kernel) rfl rfl (Nat.le_of_ble_eq_true rfl) dX0_open_34 (fun H locs hP hD hS => ?_)
    have hP : va_P D tc_Cl (tc_xW A (w1) (zI ((n + 1 : Nat) : Int)) d (F)) H := hP
    have hD : va_D AA (tc_xW A (w1) (zI ((n + 1 : Nat) : Int)) d (F)) := hD
    refine lv_aload_n hx hb dX0_open_37 rfl (lv_at hl 0 rfl) ?_
    refine lv_aload_n hx hb dX0_open_38 rfl (lv_at hl 0 rfl) ?_
    refine va_get (D := D) (ci := 0) (v := .int (zI (((n + 1 : Nat) : Int)))) (C := RX0) (T := TX0) (N := 6) hx hb hts in_X0 hown hK hP 0 rfl rfl 1 (by decide) (hts _ q27) (fun _ h9 => h9) rfl dX0_open_39 ?_
    refine lv_iconst (v := zI 1) hx hb dX0_open_42 rfl ?_
    refine z_isub hx hb dX0_open_43 ?_
    refine z_set (y := (n : Int)) (by omega) ?_
    refine mu_callv (n := 1) (wr := []) hx hb hml hown hts (kX_refresh l D A d (by omega) hw1 n (by omega) (n / 8) rfl H.size) (lw_V q50 q52 qs0 q16 q53) (by decide +kernel) ⟨Nat.le_of_ble_eq_true rfl, Nat.le_of_ble_eq_true rfl⟩ ⟨rfl, rfl⟩ hK hP hD hS hA [0, 1, 2, 3, 4] [] rfl rfl rfl (by decide) (by decide) (by decide) rfl rfl rfl hl rfl (Nat.le_of_ble_eq_true rfl) dX0_open_44 ⟨Nat.le_of_ble_eq_true rfl, Nat.le_of_ble_eq_true rfl⟩ (fun F1 H locs hU hP hD hS => ?_)
    have hP : va_P D tc_Cl (tc_xW A (w1) (zI ((n + 1 : Nat) : Int)) d (F1)) H := hP
    have hD : va_D AA (tc_xW A (w1) (zI ((n + 1 : Nat) : Int)) d (F1)) := hD
    have hI1 := tc_xI_push hI true (by omega) (Or.inl rfl) hw1 hU
    refine lv_aload_n hx hb dX0_open_47 rfl (lv_at hl 0 rfl) ?_
    refine ro_calle (n := 0) hx hb hml hown hts (kX_nodes l D A d hI1) (lw_V q58 q59 q60 q16 q61) (by decide +kernel) ⟨Nat.le_of_ble_eq_true rfl, Nat.le_of_ble_eq_true rfl⟩ ⟨rfl, rfl⟩ hK hP rfl rfl rfl hl rfl (Nat.le_of_ble_eq_true rfl) dX0_open_48 ⟨Nat.le_of_ble_eq_true rfl, Nat.le_of_ble_eq_true rfl⟩ ?_
    refine lv_iconst (v := zI 1) hx hb dX0_open_51 rfl ?_
    refine z_isub hx hb dX0_open_52 ?_
    refine z_set (y := (tc_cnt b n : Int)) (by rw [tc_cnt_s, tc_pu_n, tc_pu_cnt b n true n (Nat.le_refl n), tc_o_t]; omega) ?_
    exact mu_ret (u := (w1, zI ((n + 1 : Nat) : Int), F1)) hx hb hr hlocks hP hK hD hS (⟨n + 1, tc_pu b n true, rfl, hI1, Or.inr ⟨by omega, rfl, rfl, rfl⟩⟩) dX0_open_53
  · refine lv_bipush (v := zI (-2)) hx hb dX0_open_9 (by decide) ?_
    exact mu_ret (u := (w, zI (n : Int), F)) hx hb hr hlocks hP hK hD hS (⟨n, b, rfl, hI, Or.inl ⟨by omega, rfl, rfl, rfl⟩⟩) dX0_open_11
abbrev rmX0_close : Room := { frames := 4, cells := 0, slots := 0, locals := 93 }
set_option maxHeartbeats 4000000 in
set_option maxRecDepth 100000 in
theorem kX_close (l : Launch) (D : va_G) (A : Nat → Nat) (d : Nat → ClassId) {w : Int64} {F : Nat → Nat → Int32} {n : Nat} {b : Nat → Bool} (hI : tc_xI n b w F) (sz : Nat) : mu_Met l yX0_close cX0_close 3 (some .int) rmX0_close D (tc_xW A w (zI (n : Int)) d F) (tc_xT d) sz [.ref (A 0)] (mu_Q (Int64 × Int32 × (Nat → Nat → Int32)) D (tc_xT d) (fun u => tc_xW A u.1 u.2.1 d u.2.2) (va_A (tc_xW A w (zI (n : Int)) d F) sz) (fun r u => ∃ n1 b1, u.2.1 = zI ((n1 : Nat) : Int) ∧ tc_xI n1 b1 u.1 u.2.2 ∧ tc_cl n b n1 b1 r)) := by
  refine mu_of (by decide) (Nat.le_of_ble_eq_true rfl) ?_
  intro p e s m below meth c ls C hl
  generalize va_A (tc_xW A w (zI (n : Int)) d F) sz = AA at C ⊢
  obtain ⟨hx, hb, hr, hml, hown, hts, hlocks, hP, hK, hD, hA, hS⟩ := C
  have hown : s.vm.findClass RX0 = some m.cls := hown
  have hl : lv_has ls 3 [(0, .ref (A 0))] := hl
  obtain ⟨hn, hok, hw, hB⟩ := id hI
  have l0 := hok n (Nat.le_refl n)
  have l1 := tc_lev_le b n
  refine lv_aload_n hx hb dX0_close_0 rfl (lv_at hl 0 rfl) ?_
  refine ro_calle (n := 0) hx hb hml hown hts (kX_openNodes l D A d hI) (lw_V q70 q71 q72 q16 q73) (by decide +kernel) ⟨Nat.le_of_ble_eq_true rfl, Nat.le_of_ble_eq_true rfl⟩ ⟨rfl, rfl⟩ hK hP rfl rfl rfl hl rfl (Nat.le_of_ble_eq_true rfl) dX0_close_1 ⟨Nat.le_of_ble_eq_true rfl, Nat.le_of_ble_eq_true rfl⟩ ?_
  refine z_if_ne (tgt := 9) hx hb dX0_close_4 (by decide) (⟨by omega, by omega⟩) (fun hc => ?_) (fun hc => ?_)
  · refine lv_aload_n hx hb dX0_close_9 rfl (lv_at hl 0 rfl) ?_
    refine va_get (D := D) (ci := 0) (v := .int (zI ((n : Int)))) (C := RX0) (T := TX0) (N := 6) hx hb hts in_X0 hown hK hP 0 rfl rfl 1 (by decide) (hts _ q27) (fun _ h9 => h9) rfl dX0_close_10 ?_
    refine lv_bipush (v := zI 64) hx hb dX0_close_13 (by decide) ?_
    refine z_icmp_lt (tgt := 21) hx hb dX0_close_15 (by decide) (⟨by omega, by omega⟩) (⟨by omega, by omega⟩) (fun hc2 => ?_) (fun hc2 => ?_)
    · refine lv_aload_n hx hb dX0_close_21 rfl (lv_at hl 0 rfl) ?_
      refine ro_calle (n := 0) hx hb hml hown hts (kX_openNodes l D A d hI) (lw_V q70 q71 q72 q16 q73) (by decide +kernel) ⟨Nat.le_of_ble_eq_true rfl, Nat.le_of_ble_eq_true rfl⟩ ⟨rfl, rfl⟩ hK hP rfl rfl rfl hl rfl (Nat.le_of_ble_eq_true rfl) dX0_close_22 ⟨Nat.le_of_ble_eq_true rfl, Nat.le_of_ble_eq_true rfl⟩ ?_
      refine lv_istore_n (lv' := [(1, .int (zI (tc_lev b n))), (0, .ref (A 0))]) hx hb dX0_close_25 rfl hl (by decide) rfl (fun ls hl => ?_)
      refine lv_aload_n hx hb dX0_close_26 rfl (lv_at hl 1 rfl) ?_
      refine lv_aload_n hx hb dX0_close_27 rfl (lv_at hl 1 rfl) ?_
      refine va_get (D := D) (ci := 0) (v := .int (zI ((n : Int)))) (C := RX0) (T := TX0) (N := 6) hx hb hts in_X0 hown hK hP 0 rfl rfl 1 (by decide) (hts _ q27) (fun _ h9 => h9) rfl dX0_close_28 ?_
      refine lv_iload_n hx hb dX0_close_31 rfl (lv_at hl 0 rfl) ?_
      refine lv_iconst (v := zI 1) hx hb dX0_close_32 rfl ?_
      refine z_isub hx hb dX0_close_33 ?_
      refine ro_call (n := 2) hx hb hml hown hts (kX_backTo l D A d hI n (Nat.le_refl n) (tc_lev b n - 1) (by omega) (by omega)) (lw_V q78 q80 qs4 q16 q81) (by decide +kernel) ⟨Nat.le_of_ble_eq_true rfl, Nat.le_of_ble_eq_true rfl⟩ ⟨rfl, rfl⟩ hK hP rfl rfl rfl hl rfl (Nat.le_of_ble_eq_true rfl) dX0_close_34 ⟨Nat.le_of_ble_eq_true rfl, Nat.le_of_ble_eq_true rfl⟩ (fun r34 hQ => ?_)
      obtain ⟨q, rfl, hq⟩ := hQ
      refine lv_istore_n (lv' := [(2, .int (zI ((q : Int)))), (1, .int (zI (tc_lev b n))), (0, .ref (A 0))]) hx hb dX0_close_37 rfl hl (by decide) rfl (fun ls hl => ?_)
      refine lv_aload_n hx hb dX0_close_38 rfl (lv_at hl 2 rfl) ?_
      refine lv_dup hx hb dX0_close_39 rfl ?_
      refine va_get (D := D) (ci := 0) (v := .long (w)) (C := RX0) (T := TX0) (N := 6) hx hb hts in_X0 hown hK hP 0 rfl rfl 0 (by decide) (hts _ q26) (fun _ h9 => h9) rfl dX0_close_40 ?_
      refine lv_lconst (v := 1) hx hb dX0_close_43 (by decide) ?_
      refine lv_aload_n hx hb dX0_close_44 rfl (lv_at hl 2 rfl) ?_
      refine va_get (D := D) (ci := 0) (v := .int (zI ((n : Int)))) (C := RX0) (T := TX0) (N := 6) hx hb hts in_X0 hown hK hP 0 rfl rfl 1 (by decide) (hts _ q27) (fun _ h9 => h9) rfl dX0_close_45 ?_
      refine lv_lshl (v := (1 : Int64) <<< ((zI (n : Int)).toInt64 &&& 63)) hx hb dX0_close_48 rfl ?_
      refine lv_ldc2 hx hb hown (hts _ q82) dX0_close_49 ?_
      refine lv_lxor hx hb dX0_close_52 ?_
      refine lv_land hx hb dX0_close_53 ?_
      have hw1 := tc_w_and (by omega) hw
      generalize w &&& (((1 : Int64) <<< ((zI (n : Int)).toInt64 &&& 63)) ^^^ (-1)) = w1 at hw1 ⊢
      refine va_put (D := D) (ci := 0) (v := .long (w1)) (ty := .long) (C := RX0) (T := TX0) (N := 6) hx hb hts in_X0 tyX0 tyX0_ok nmX0 hown hK hP hD hS 0 rfl rfl 0 (by decide) (hts _ q26) (fun _ h9 => h9) rfl (by decide +kernel) rfl rfl (Nat.le_of_ble_eq_true rfl) dX0_close_54 (fun H locs hP hD hS => ?_)
      have hP : va_P D tc_Cl (tc_xW A (w1) (zI (n : Int)) d (F)) H := hP
      have hD : va_D AA (tc_xW A (w1) (zI (n : Int)) d (F)) := hD
      refine lv_aload_n hx hb dX0_close_57 rfl (lv_at hl 2 rfl) ?_
      refine lv_dup hx hb dX0_close_58 rfl ?_
      refine va_get (D := D) (ci := 0) (v := .int (zI ((n : Int)))) (C := RX0) (T := TX0) (N := 6) hx hb hts in_X0 hown hK hP 0 rfl rfl 1 (by decide) (hts _ q27) (fun _ h9 => h9) rfl dX0_close_59 ?_
      refine lv_iconst (v := zI 1) hx hb dX0_close_62 rfl ?_
      refine z_iadd hx hb dX0_close_63 ?_
      refine z_set (y := ((n + 1 : Nat) : Int)) (by omega) ?_
      refine va_put (D := D) (ci := 0) (v := .int (zI (((n + 1 : Nat) : Int)))) (ty := .int) (C := RX0) (T := TX0) (N := 6) hx hb hts in_X0 tyX0 tyX0_ok nmX0 hown hK hP hD hS 0 rfl rfl 1 (by decide) (hts _ q27) (fun _ h9 => h9) rfl (by decide +kernel) rfl rfl (Nat.le_of_ble_eq_true rfl) dX0_close_64 (fun H locs hP hD hS => ?_)
      have hP : va_P D tc_Cl (tc_xW A (w1) (zI ((n + 1 : Nat) : Int)) d (F)) H := hP
      have hD : va_D AA (tc_xW A (w1) (zI ((n + 1 : Nat) : Int)) d (F)) := hD
      refine lv_aload_n hx hb dX0_close_67 rfl (lv_at hl 2 rfl) ?_
      refine lv_aload_n hx hb dX0_close_68 rfl (lv_at hl 2 rfl) ?_
      refine va_get (D := D) (ci := 0) (v := .int (zI (((n + 1 : Nat) : Int)))) (C := RX0) (T := TX0) (N := 6) hx hb hts in_X0 hown hK hP 0 rfl rfl 1 (by decide) (hts _ q27) (fun _ h9 => h9) rfl dX0_close_69 ?_
      refine lv_iconst (v := zI 1) hx hb dX0_close_72 rfl ?_
      refine z_isub hx hb dX0_close_73 ?_
      refine z_set (y := (n : Int)) (by omega) ?_
      refine mu_callv (n := 1) (wr := []) hx hb hml hown hts (kX_refresh l D A d (by omega) hw1 n (by omega) (n / 8) rfl H.size) (lw_V q50 q52 qs0 q16 q53) (by decide +kernel) ⟨Nat.le_of_ble_eq_true rfl, Nat.le_of_ble_eq_true rfl⟩ ⟨rfl, rfl⟩ hK hP hD hS hA [0, 1, 2, 3, 4] [] rfl rfl rfl (by decide) (by decide) (by decide) rfl rfl rfl hl rfl (Nat.le_of_ble_eq_true rfl) dX0_close_74 ⟨Nat.le_of_ble_eq_true rfl, Nat.le_of_ble_eq_true rfl⟩ (fun F1 H locs hU hP hD hS => ?_)
      have hP : va_P D tc_Cl (tc_xW A (w1) (zI ((n + 1 : Nat) : Int)) d (F1)) H := hP
      have hD : va_D AA (tc_xW A (w1) (zI ((n + 1 : Nat) : Int)) d (F1)) := hD
      have hI1 := tc_xI_push hI false (by omega) (Or.inr (by omega)) hw1 hU
      have hq1 := hq.1
      refine lv_aload_n hx hb dX0_close_77 rfl (lv_at hl 2 rfl) ?_
      refine lv_iload_n hx hb dX0_close_78 rfl (lv_at hl 0 rfl) ?_
      refine ro_calle (n := 1) hx hb hml hown hts (kX_opensBefore l D A d hI1 q (by omega)) (lw_V q62 q64 qs2 q16 q65) (by decide +kernel) ⟨Nat.le_of_ble_eq_true rfl, Nat.le_of_ble_eq_true rfl⟩ ⟨rfl, rfl⟩ hK hP rfl rfl rfl hl rfl (Nat.le_of_ble_eq_true rfl) dX0_close_79 ⟨Nat.le_of_ble_eq_true rfl, Nat.le_of_ble_eq_true rfl⟩ ?_
      refine z_set (y := (tc_cnt b q : Int)) (by rw [tc_pu_cnt b n false q (by omega)]) ?_
      exact mu_ret (u := (w1, zI ((n + 1 : Nat) : Int), F1)) hx hb hr hlocks hP hK hD hS (⟨n + 1, tc_pu b n false, rfl, hI1, Or.inr (Or.inr ⟨hc, by omega, rfl, rfl, _, Or.inr ⟨q, tc_bk_par hq, rfl⟩, rfl⟩)⟩) dX0_close_82
    · refine lv_bipush (v := zI (-2)) hx hb dX0_close_18 (by decide) ?_
      exact mu_ret (u := (w, zI (n : Int), F)) hx hb hr hlocks hP hK hD hS (⟨n, b, rfl, hI, Or.inr (Or.inl ⟨hc, by omega, rfl, rfl, rfl⟩)⟩) dX0_close_20
  · refine lv_iconst (v := zI (-1)) hx hb dX0_close_7 rfl ?_
    exact mu_ret (u := (w, zI (n : Int), F)) hx hb hr hlocks hP hK hD hS (⟨n, b, rfl, hI, Or.inl ⟨hc, rfl, rfl, rfl⟩⟩) dX0_close_8
abbrev rmX0_undo : Room := { frames := 2, cells := 0, slots := 0, locals := 48 }
set_option maxHeartbeats 4000000 in
set_option maxRecDepth 100000 in
theorem kX_undo (l : Launch) (D : va_G) (A : Nat → Nat) (d : Nat → ClassId) {w : Int64} {F : Nat → Nat → Int32} {n : Nat} {b : Nat → Bool} (hI : tc_xI n b w F) (sz : Nat) : mu_Met l yX0_undo cX0_undo 1 (some .int) rmX0_undo D (tc_xW A w (zI (n : Int)) d F) (tc_xT d) sz [.ref (A 0)] (mu_Q (Int64 × Int32 × (Nat → Nat → Int32)) D (tc_xT d) (fun u => tc_xW A u.1 u.2.1 d u.2.2) (va_A (tc_xW A w (zI (n : Int)) d F) sz) (fun r u => ∃ n1 b1, u.2.1 = zI ((n1 : Nat) : Int) ∧ tc_xI n1 b1 u.1 u.2.2 ∧ tc_un n b n1 b1 r)) := by
  refine mu_of (by decide) (Nat.le_of_ble_eq_true rfl) ?_
  intro p e s m below meth c ls C hl
  generalize va_A (tc_xW A w (zI (n : Int)) d F) sz = AA at C ⊢
  obtain ⟨hx, hb, hr, hml, hown, hts, hlocks, hP, hK, hD, hA, hS⟩ := C
  have hown : s.vm.findClass RX0 = some m.cls := hown
  have hl : lv_has ls 1 [(0, .ref (A 0))] := hl
  obtain ⟨hn, hok, hw, hB⟩ := id hI
  refine lv_aload_n hx hb dX0_undo_0 rfl (lv_at hl 0 rfl) ?_
  refine va_get (D := D) (ci := 0) (v := .int (zI ((n : Int)))) (C := RX0) (T := TX0) (N := 6) hx hb hts in_X0 hown hK hP 0 rfl rfl 1 (by decide) (hts _ q27) (fun _ h9 => h9) rfl dX0_undo_1 ?_
  refine z_if_ne (tgt := 9) hx hb dX0_undo_4 (by decide) (⟨by omega, by omega⟩) (fun hc => ?_) (fun hc => ?_)
  · refine lv_aload_n hx hb dX0_undo_9 rfl (lv_at hl 0 rfl) ?_
    refine lv_dup hx hb dX0_undo_10 rfl ?_
    refine va_get (D := D) (ci := 0) (v := .int (zI ((n : Int)))) (C := RX0) (T := TX0) (N := 6) hx hb hts in_X0 hown hK hP 0 rfl rfl 1 (by decide) (hts _ q27) (fun _ h9 => h9) rfl dX0_undo_11 ?_
    refine lv_iconst (v := zI 1) hx hb dX0_undo_14 rfl ?_
    refine z_isub hx hb dX0_undo_15 ?_
    refine z_set (y := ((n - 1 : Nat) : Int)) (by omega) ?_
    refine va_put (D := D) (ci := 0) (v := .int (zI (((n - 1 : Nat) : Int)))) (ty := .int) (C := RX0) (T := TX0) (N := 6) hx hb hts in_X0 tyX0 tyX0_ok nmX0 hown hK hP hD hS 0 rfl rfl 1 (by decide) (hts _ q27) (fun _ h9 => h9) rfl (by decide +kernel) rfl rfl (Nat.le_of_ble_eq_true rfl) dX0_undo_16 (fun H locs hP hD hS => ?_)
    have hP : va_P D tc_Cl (tc_xW A (w) (zI ((n - 1 : Nat) : Int)) d (F)) H := hP
    have hD : va_D AA (tc_xW A (w) (zI ((n - 1 : Nat) : Int)) d (F)) := hD
    refine lv_aload_n hx hb dX0_undo_19 rfl (lv_at hl 0 rfl) ?_
    refine lv_aload_n hx hb dX0_undo_20 rfl (lv_at hl 0 rfl) ?_
    refine va_get (D := D) (ci := 0) (v := .int (zI (((n - 1 : Nat) : Int)))) (C := RX0) (T := TX0) (N := 6) hx hb hts in_X0 hown hK hP 0 rfl rfl 1 (by decide) (hts _ q27) (fun _ h9 => h9) rfl dX0_undo_21 ?_
    refine mu_callv (n := 1) (wr := []) hx hb hml hown hts (kX_refresh l D A d (by omega) (fun i hi => hw i (by omega)) (n - 1) (by omega) ((n - 1) / 8) rfl H.size) (lw_V q50 q52 qs0 q16 q53) (by decide +kernel) ⟨Nat.le_of_ble_eq_true rfl, Nat.le_of_ble_eq_true rfl⟩ ⟨rfl, rfl⟩ hK hP hD hS hA [0, 1, 2, 3, 4] [] rfl rfl rfl (by decide) (by decide) (by decide) rfl rfl rfl hl rfl (Nat.le_of_ble_eq_true rfl) dX0_undo_24 ⟨Nat.le_of_ble_eq_true rfl, Nat.le_of_ble_eq_true rfl⟩ (fun F1 H locs hU hP hD hS => ?_)
    have hP : va_P D tc_Cl (tc_xW A (w) (zI ((n - 1 : Nat) : Int)) d (F1)) H := hP
    have hD : va_D AA (tc_xW A (w) (zI ((n - 1 : Nat) : Int)) d (F1)) := hD
    have hI1 := tc_xI_pop hI (by omega) hU
    refine lv_aload_n hx hb dX0_undo_27 rfl (lv_at hl 0 rfl) ?_
    refine va_get (D := D) (ci := 0) (v := .int (zI (((n - 1 : Nat) : Int)))) (C := RX0) (T := TX0) (N := 6) hx hb hts in_X0 hown hK hP 0 rfl rfl 1 (by decide) (hts _ q27) (fun _ h9 => h9) rfl dX0_undo_28 ?_
    exact mu_ret (u := (w, zI ((n - 1 : Nat) : Int), F1)) hx hb hr hlocks hP hK hD hS (⟨n - 1, b, rfl, hI1, Or.inr ⟨by omega, rfl, rfl, rfl⟩⟩) dX0_undo_31
  · refine lv_iconst (v := zI (-1)) hx hb dX0_undo_7 rfl ?_
    exact mu_ret (u := (w, zI (n : Int), F)) hx hb hr hlocks hP hK hD hS (⟨n, b, rfl, hI, Or.inl ⟨by omega, rfl, rfl, rfl⟩⟩) dX0_undo_8
def tc_A5 (a b c d e : Nat) : Nat → Nat
  | 0 => a
  | 1 => b
  | 2 => c
  | 3 => d
  | _ => e
def tc_A4 {α : Type} (a b c d : α) : Nat → α
  | 0 => a
  | 1 => b
  | 2 => c
  | _ => d
abbrev rmX0_init : Room := { frames := 1, cells := 4, slots := 32, locals := 12 }
set_option maxHeartbeats 4000000 in
set_option maxRecDepth 100000 in
theorem kX_init (l : Launch) (D : va_G) (h0 sz : Nat) : Met l yX0_init (ws_ yX0_init cX0_init 1 none) rmX0_init (va_Pc [.ref h0] (mu_B D [(h0, .inr (0, [.long 0, .int 0, .null, .null, .null, .null]))] [] sz)) (va_Qv (fun u : (Nat → Nat) × (Nat → ClassId) => u.1 0 = h0) (fun u t => va_P D tc_Cl (tc_xW u.1 0 0 u.2 (fun _ _ => 0)) t.heap ∧ va_K D tc_Cl (tc_xT u.2) t ∧ va_D (va_A [(h0, .inr (0, [.long 0, .int 0, .null, .null, .null, .null]))] sz) (tc_xW u.1 0 0 u.2 (fun _ _ => 0))) (va_A [(h0, .inr (0, [.long 0, .int 0, .null, .null, .null, .null]))] sz)) 4 32 (va_A [(h0, .inr (0, [.long 0, .int 0, .null, .null, .null, .null]))] sz) := by
  refine Met.ofW (cc := cX0_init) (maxL := 1) (ret := none) (by decide) rfl ?_
  intro p e s m args below meth c s₁ B hml hv
  obtain ⟨rfl, hsz, hP, hK, hD0⟩ := hv
  have hx := B.exec
  have hb := B.bytes
  have hr := B.returns
  have hts := atoms_spec (ws := ws_ yX0_init cX0_init 1 none) B.pre
  have hts : ∀ w ∈ lw_all, w.before _ s = true := fun w h => hts w (List.mem_cons_of_mem _ h)
  have hown : s.vm.findClass RX0 = some m.cls := findClass_of_methodNamed B.named
  have hlocks := B.notSynchronized
  have hin : meth.name = "<init>" := (name_of_methodNamed B.named B.method).1
  have hD := hD0.self (sz := sz)
  generalize hAe : va_A [(h0, .inr (0, [.long 0, .int 0, .null, .null, .null, .null]))] sz = A at hD ⊢
  have hA : ∀ q : Nat, s.heap.size ≤ q → A q := fun q h => by rw [← hAe]; exact Or.inr (by rw [← hsz]; exact h)
  have hS : va_S A s.heap s.heap [] := va_S.rf
  have hl := lv_entry ([.ref h0]) (n := 1) (Nat.le_of_ble_eq_true rfl)
  rw [lg_entry_eq]
  generalize (lg_sl ([.ref h0]) ++ List.replicate (1 - (lg_sl ([.ref h0])).length) Slot.unset).toArray = ls at hl ⊢
  have hl : lv_has ls 1 [(0, .ref h0)] := hl
  refine lv_aload_n hx hb dX0_init_0 rfl (lv_at hl 0 rfl) ?_
  refine W.objInit hx hb hown (hts _ q23) (hts _ q24) (hts _ q25) rfl (by rw [hml]; exact hl.1) rfl dX0_init_1 (Nat.le_of_ble_eq_true rfl) (Nat.le_of_ble_eq_true rfl) ?_
  refine W.eq (g2 := F0 m 4 ls []) rfl ?_
  refine lv_aload_n hx hb dX0_init_4 rfl (lv_at hl 0 rfl) ?_
  refine lv_bipush (v := 8) hx hb dX0_init_5 (by decide) ?_
  refine va_newa (atype := .byte) (ty := .byte) (N' := 8) (a0 := (8, .inl (fun _ => 0))) hx hb (hts _ q45) rfl hK hP hD hS hA (fun cA => rfl) (by decide) (by decide) (by decide) (Nat.le_of_ble_eq_true rfl) (Nat.le_of_ble_eq_true rfl) dX0_init_7 (fun a0 d0 H hK hP hD hS => ?_)
  have hP : va_P D tc_Cl [(h0, .inr (0, [.long 0, .int 0, .null, .null, .null, .null])), (a0, .inl (d0, 8, .inl (fun _ => 0)))] H := hP
  have hD : va_D A [(h0, .inr (0, [.long 0, .int 0, .null, .null, .null, .null])), (a0, .inl (d0, 8, .inl (fun _ => 0)))] := hD
  have hK : va_K D tc_Cl [(d0, .byte)] s := hK
  refine va_putF (D := D) (ci := 0) (v := .ref a0) (ty := .array .byte) (C := RX0) (T := TX0) (N := 6) hx hb hts in_X0 tyX0 tyX0_ok nmX0 hown hK hP hD hS 0 rfl rfl 2 (by decide) (hts _ q28) (fun _ h9 => h9) rfl hin rfl (by decide +kernel) rfl rfl (Nat.le_of_ble_eq_true rfl) dX0_init_9 (fun H locs hP hD hS => ?_)
  have hP : va_P D tc_Cl [(h0, .inr (0, [.long 0, .int 0, .ref a0, .null, .null, .null])), (a0, .inl (d0, 8, .inl (fun _ => 0)))] H := hP
  have hD : va_D A [(h0, .inr (0, [.long 0, .int 0, .ref a0, .null, .null, .null])), (a0, .inl (d0, 8, .inl (fun _ => 0)))] := hD
  refine lv_aload_n hx hb dX0_init_12 rfl (lv_at hl 0 rfl) ?_
  refine lv_bipush (v := 8) hx hb dX0_init_13 (by decide) ?_
  refine va_newa (atype := .byte) (ty := .byte) (N' := 8) (a0 := (8, .inl (fun _ => 0))) hx hb (hts _ q45) rfl hK hP hD hS hA (fun cA => rfl) (by decide) (by decide) (by decide) (Nat.le_of_ble_eq_true rfl) (Nat.le_of_ble_eq_true rfl) dX0_init_15 (fun a1 d1 H hK hP hD hS => ?_)
  have hP : va_P D tc_Cl [(h0, .inr (0, [.long 0, .int 0, .ref a0, .null, .null, .null])), (a0, .inl (d0, 8, .inl (fun _ => 0))), (a1, .inl (d1, 8, .inl (fun _ => 0)))] H := hP
  have hD : va_D A [(h0, .inr (0, [.long 0, .int 0, .ref a0, .null, .null, .null])), (a0, .inl (d0, 8, .inl (fun _ => 0))), (a1, .inl (d1, 8, .inl (fun _ => 0)))] := hD
  have hK : va_K D tc_Cl [(d0, .byte), (d1, .byte)] s := hK
  refine va_putF (D := D) (ci := 0) (v := .ref a1) (ty := .array .byte) (C := RX0) (T := TX0) (N := 6) hx hb hts in_X0 tyX0 tyX0_ok nmX0 hown hK hP hD hS 0 rfl rfl 3 (by decide) (hts _ q29) (fun _ h9 => h9) rfl hin rfl (by decide +kernel) rfl rfl (Nat.le_of_ble_eq_true rfl) dX0_init_17 (fun H locs hP hD hS => ?_)
  have hP : va_P D tc_Cl [(h0, .inr (0, [.long 0, .int 0, .ref a0, .ref a1, .null, .null])), (a0, .inl (d0, 8, .inl (fun _ => 0))), (a1, .inl (d1, 8, .inl (fun _ => 0)))] H := hP
  have hD : va_D A [(h0, .inr (0, [.long 0, .int 0, .ref a0, .ref a1, .null, .null])), (a0, .inl (d0, 8, .inl (fun _ => 0))), (a1, .inl (d1, 8, .inl (fun _ => 0)))] := hD
  refine lv_aload_n hx hb dX0_init_20 rfl (lv_at hl 0 rfl) ?_
  refine lv_bipush (v := 8) hx hb dX0_init_21 (by decide) ?_
  refine va_newa (atype := .byte) (ty := .byte) (N' := 8) (a0 := (8, .inl (fun _ => 0))) hx hb (hts _ q45) rfl hK hP hD hS hA (fun cA => rfl) (by decide) (by decide) (by decide) (Nat.le_of_ble_eq_true rfl) (Nat.le_of_ble_eq_true rfl) dX0_init_23 (fun a2 d2 H hK hP hD hS => ?_)
  have hP : va_P D tc_Cl [(h0, .inr (0, [.long 0, .int 0, .ref a0, .ref a1, .null, .null])), (a0, .inl (d0, 8, .inl (fun _ => 0))), (a1, .inl (d1, 8, .inl (fun _ => 0))), (a2, .inl (d2, 8, .inl (fun _ => 0)))] H := hP
  have hD : va_D A [(h0, .inr (0, [.long 0, .int 0, .ref a0, .ref a1, .null, .null])), (a0, .inl (d0, 8, .inl (fun _ => 0))), (a1, .inl (d1, 8, .inl (fun _ => 0))), (a2, .inl (d2, 8, .inl (fun _ => 0)))] := hD
  have hK : va_K D tc_Cl [(d0, .byte), (d1, .byte), (d2, .byte)] s := hK
  refine va_putF (D := D) (ci := 0) (v := .ref a2) (ty := .array .byte) (C := RX0) (T := TX0) (N := 6) hx hb hts in_X0 tyX0 tyX0_ok nmX0 hown hK hP hD hS 0 rfl rfl 4 (by decide) (hts _ q30) (fun _ h9 => h9) rfl hin rfl (by decide +kernel) rfl rfl (Nat.le_of_ble_eq_true rfl) dX0_init_25 (fun H locs hP hD hS => ?_)
  have hP : va_P D tc_Cl [(h0, .inr (0, [.long 0, .int 0, .ref a0, .ref a1, .ref a2, .null])), (a0, .inl (d0, 8, .inl (fun _ => 0))), (a1, .inl (d1, 8, .inl (fun _ => 0))), (a2, .inl (d2, 8, .inl (fun _ => 0)))] H := hP
  have hD : va_D A [(h0, .inr (0, [.long 0, .int 0, .ref a0, .ref a1, .ref a2, .null])), (a0, .inl (d0, 8, .inl (fun _ => 0))), (a1, .inl (d1, 8, .inl (fun _ => 0))), (a2, .inl (d2, 8, .inl (fun _ => 0)))] := hD
  refine lv_aload_n hx hb dX0_init_28 rfl (lv_at hl 0 rfl) ?_
  refine lv_bipush (v := 8) hx hb dX0_init_29 (by decide) ?_
  refine va_newa (atype := .byte) (ty := .byte) (N' := 8) (a0 := (8, .inl (fun _ => 0))) hx hb (hts _ q45) rfl hK hP hD hS hA (fun cA => rfl) (by decide) (by decide) (by decide) (Nat.le_of_ble_eq_true rfl) (Nat.le_of_ble_eq_true rfl) dX0_init_31 (fun a3 d3 H hK hP hD hS => ?_)
  have hP : va_P D tc_Cl [(h0, .inr (0, [.long 0, .int 0, .ref a0, .ref a1, .ref a2, .null])), (a0, .inl (d0, 8, .inl (fun _ => 0))), (a1, .inl (d1, 8, .inl (fun _ => 0))), (a2, .inl (d2, 8, .inl (fun _ => 0))), (a3, .inl (d3, 8, .inl (fun _ => 0)))] H := hP
  have hD : va_D A [(h0, .inr (0, [.long 0, .int 0, .ref a0, .ref a1, .ref a2, .null])), (a0, .inl (d0, 8, .inl (fun _ => 0))), (a1, .inl (d1, 8, .inl (fun _ => 0))), (a2, .inl (d2, 8, .inl (fun _ => 0))), (a3, .inl (d3, 8, .inl (fun _ => 0)))] := hD
  have hK : va_K D tc_Cl [(d0, .byte), (d1, .byte), (d2, .byte), (d3, .byte)] s := hK
  refine va_putF (D := D) (ci := 0) (v := .ref a3) (ty := .array .byte) (C := RX0) (T := TX0) (N := 6) hx hb hts in_X0 tyX0 tyX0_ok nmX0 hown hK hP hD hS 0 rfl rfl 5 (by decide) (hts _ q31) (fun _ h9 => h9) rfl hin rfl (by decide +kernel) rfl rfl (Nat.le_of_ble_eq_true rfl) dX0_init_33 (fun H locs hP hD hS => ?_)
  have hP : va_P D tc_Cl [(h0, .inr (0, [.long 0, .int 0, .ref a0, .ref a1, .ref a2, .ref a3])), (a0, .inl (d0, 8, .inl (fun _ => 0))), (a1, .inl (d1, 8, .inl (fun _ => 0))), (a2, .inl (d2, 8, .inl (fun _ => 0))), (a3, .inl (d3, 8, .inl (fun _ => 0)))] H := hP
  have hD : va_D A [(h0, .inr (0, [.long 0, .int 0, .ref a0, .ref a1, .ref a2, .ref a3])), (a0, .inl (d0, 8, .inl (fun _ => 0))), (a1, .inl (d1, 8, .inl (fun _ => 0))), (a2, .inl (d2, 8, .inl (fun _ => 0))), (a3, .inl (d3, 8, .inl (fun _ => 0)))] := hD
  refine W.widen (k := 4) (n := 32) (Nat.le_of_ble_eq_true rfl) (Nat.le_of_ble_eq_true rfl) ?_
  exact W.vret hx hb hr (fun t ht hW => ⟨⟨(tc_A5 h0 a0 a1 a2 a3, tc_A4 d0 d1 d2 d3), rfl, rfl, by rw [ht]; exact hP, va_K.moved hW.alike hK, hD⟩, hS.F ht⟩) hS.2.2 dX0_init_36
end
section
/-! TreeCodesModel: its tables, plain laws for its loops over the nodes -/
def tc_TT (b : Nat → Bool) (k : Nat) (up dp : Nat → Int32) : Prop := ∀ p, p < k → b p = true → (∃ x, up (tc_cnt b p) = zI x ∧ tc_tp b p x) ∧ dp (tc_cnt b p) = zI (tc_lev b p)
def tc_mQ (n : Nat) (b : Nat → Bool) (ct la : Int32) (up dp : Nat → Int32) : Prop := ct = zI (tc_cnt b n : Int) ∧ (∃ z, la = zI z ∧ tc_tp b n z) ∧ tc_TT b n up dp
def tc_bs (n : Nat) (b : Nat → Bool) (bs : Nat → Int32) : Prop := ∀ i, i < n → bs i = zI (tc_o (b i) : Int)
abbrev tc_M4 : Type := Int32 × Int32 × (Nat → Int32) × (Nat → Int32)
abbrev tc_M6 : Type := Int32 × (Nat → Int32) × Int32 × Int32 × (Nat → Int32) × (Nat → Int32)
theorem tc_tp_bd {b : Nat → Bool} {k : Nat} {z : Int} (h : tc_tp b k z) : -1 ≤ z ∧ z ≤ (k : Int) := by
  rcases h with ⟨_, e⟩ | ⟨p, h1, e⟩
  · omega
  · have := tc_cnt_le b p
    have := h1.1
    omega
theorem tc_o_0 {x : Bool} (h : (tc_o x : Int) = 0) : x = false := by
  cases x
  · rfl
  · rw [tc_o_t] at h; omega
theorem tc_o_1 {x : Bool} (h : (tc_o x : Int) ≠ 0) : x = true := by
  cases x
  · rw [tc_o_f] at h; omega
  · rfl
theorem tc_TT_push {b : Nat → Bool} {k : Nat} {up dp : Nat → Int32} {z : Int} (h : tc_TT b k up dp) (hz : tc_tp b k z) (hb : b k = true) : tc_TT b (k + 1) (upd up (tc_cnt b k) (zI z)) (upd dp (tc_cnt b k) (zI (tc_lev b k))) := by
  intro p hp hbp
  by_cases e : p = k
  · subst e
    exact ⟨⟨z, pk_us, hz⟩, pk_us⟩
  · have h1 := h p (by omega) hbp
    have h2 := tc_cnt_lt hbp (show p < k by omega)
    rw [pk_un (by omega), pk_un (by omega)]
    exact h1
theorem tc_TT_keep {b : Nat → Bool} {k : Nat} {up dp : Nat → Int32} (h : tc_TT b k up dp) (hb : b k = false) : tc_TT b (k + 1) up dp := by
  intro p hp hbp
  by_cases e : p = k
  · subst e; rw [hb] at hbp; cases hbp
  · exact h p (by omega) hbp
theorem tc_flat {b : Nat → Bool} {q n : Nat} (h : tc_cnt b n ≤ tc_cnt b q) : ∀ k, q ≤ k → k < n → b k = false := by
  intro k h1 h2
  cases hb : b k
  · rfl
  · have := tc_cnt_lt hb h2
    have := tc_cnt_mono (b := b) h1
    omega
theorem tc_zcnt {b : Nat → Bool} {i : Nat} (h : i ≤ 64) : zs (tc_cnt b i : Int) := by
  have := tc_cnt_le b i
  exact ⟨by omega, by omega⟩
theorem tc_le_cnt {b : Nat → Bool} {p q : Nat} (hb : b q = true) (h : tc_cnt b p ≤ tc_cnt b q) : p ≤ q := by
  rcases Nat.lt_or_ge q p with u | u
  · have := tc_cnt_lt hb u; omega
  · exact u
/-- below a node, by the nodes' numbers -/
theorem tc_anc_num {n : Nat} {b : Nat → Bool} {p e q : Nat} (he : tc_end n b p e) (hq : q < n) (hb : b q = true) : tc_anc b p q ↔ (tc_cnt b p ≤ tc_cnt b q ∧ tc_cnt b q < tc_cnt b e) := by
  rw [tc_anc_end he hq hb]
  constructor
  · rintro ⟨h1, h2⟩
    exact ⟨tc_cnt_mono h1, tc_cnt_lt hb h2⟩
  · rintro ⟨h1, h2⟩
    exact ⟨tc_le_cnt hb h1, tc_lt_of_cnt h2⟩
theorem tc_lf_iff {n : Nat} {b : Nat → Bool} {r p : Nat} (hr : b r = true) (hrp : r < p) (hp : p < n) : tc_lf b r ↔ tc_num (tc_kid b r) n = 0 := by
  constructor
  · rintro ⟨_, h⟩
    exact tc_kid_none hr (fun q => by rw [h] at q; cases q.2)
  · intro h
    refine ⟨hr, ts_nt (fun q => ?_)⟩
    have hk := tc_kid_first hr q
    have := tc_num_lt (P := tc_kid b r) hk.1 (show r + 1 < n by omega)
    omega
end
section
abbrev rmX1_work : Room := { frames := 0, cells := 0, slots := 0, locals := 0 }
set_option maxHeartbeats 4000000 in
set_option maxRecDepth 100000 in
theorem kM_work (l : Launch) (D : va_G) (A : Nat → Nat) (d : Nat → ClassId) {n : Nat} {b : Nat → Bool} {bs : Nat → Int32} (hn : n ≤ 64) (hok : tc_ok n b) (hbs : tc_bs n b bs) (ct la : Int32) (up dp : Nat → Int32) (sz : Nat) : mu_Met l yX1_work cX1_work 2 none rmX1_work D (tc_mW A d (zI (n : Int)) bs ct la up dp) (tc_mT d) sz [.ref (A 0)] (mu_V tc_M4 D (tc_mT d) (fun u => tc_mW A d (zI (n : Int)) bs u.1 u.2.1 u.2.2.1 u.2.2.2) (va_A (tc_mW A d (zI (n : Int)) bs ct la up dp) sz) (fun u => tc_mQ n b u.1 u.2.1 u.2.2.1 u.2.2.2)) := by
  refine mu_of (by decide) (Nat.le_of_ble_eq_true rfl) ?_
  intro p e s m below meth c ls C hl
  generalize va_A (tc_mW A d (zI (n : Int)) bs ct la up dp) sz = AA at C ⊢
  obtain ⟨hx, hb, hr, hml, hown, hts, hlocks, hP, hK, hD, hA, hS⟩ := C
  have hown : s.vm.findClass RX1 = some m.cls := hown
  have hl : lv_has ls 2 [(0, .ref (A 0))] := hl
  have loop : ∀ (f : Nat) (k : Nat) (z : Int) (u1 d1 : Nat → Int32) (H : Heap) (locs : List Loc), n + 1 ≤ k + f → k ≤ n → tc_tp b k z → tc_TT b k u1 d1 → va_P D tc_Cl (tc_mW A d (zI (n : Int)) (bs) (zI (tc_cnt b k : Int)) (zI z) (u1) (d1)) H → va_D AA (tc_mW A d (zI (n : Int)) (bs) (zI (tc_cnt b k : Int)) (zI z) (u1) (d1)) → va_S AA s.heap H locs → ∀ (ls : Array Slot), lv_has ls 2 [(0, .ref (A 0)), (1, .int (zI ((k : Int))))] → mu_G p l e s m below meth c yX1_work cX1_work 2 none rmX1_work [.ref (A 0)] (mu_V tc_M4 D (tc_mT d) (fun u => tc_mW A d (zI (n : Int)) bs u.1 u.2.1 u.2.2.1 u.2.2.2) AA (fun u => tc_mQ n b u.1 u.2.1 u.2.2.1 u.2.2.2)) AA H locs (F0 m 12 ls []) := by
    intro f
    induction f with
    | zero => intro k z u1 d1 H locs h1 h2 h3 h4; exact absurd h1 (by omega)
    | succ f ih =>
      intro k z u1 d1 H locs h1 h2 h3 h4 hP hD hS ls hl
      have zb := tc_tp_bd h3
      have cl := tc_cnt_le b k
      refine lv_iload_n hx hb dX1_work_12 rfl (lv_at hl 1 rfl) ?_
      refine lv_aload_n hx hb dX1_work_13 rfl (lv_at hl 0 rfl) ?_
      refine va_get (D := D) (ci := 1) (v := .int (zI ((n : Int)))) (C := RX1) (T := TX1) (N := 6) hx hb hts in_X1 hown hK hP 0 rfl rfl 0 (by decide) (hts _ q166) (fun _ h9 => h9) rfl dX1_work_14 ?_
      refine z_icmp_ge (tgt := 120) hx hb dX1_work_17 (by decide) (⟨by omega, by omega⟩) (⟨by omega, by omega⟩) (fun hc => ?_) (fun hc => ?_)
      · have ek : k = n := by omega
        subst ek
        exact mu_vret (u := (zI (tc_cnt b k : Int), zI z, u1, d1)) hx hb hr hlocks hP hK hD hS ⟨rfl, ⟨z, rfl, h3⟩, h4⟩ dX1_work_120
      · refine lv_aload_n hx hb dX1_work_20 rfl (lv_at hl 0 rfl) ?_
        refine va_get (D := D) (ci := 1) (v := .ref (A 1)) (C := RX1) (T := TX1) (N := 6) hx hb hts in_X1 hown hK hP 0 rfl rfl 1 (by decide) (hts _ q167) (fun _ h9 => h9) rfl dX1_work_21 ?_
        refine lv_iload_n hx hb dX1_work_24 rfl (lv_at hl 1 rfl) ?_
        refine z_zald hx hb hK hP 1 0 rfl rfl (k := k) (by omega) (by decide) (v := (zI ((tc_o (b k) : Int)))) (hbs k (by omega)) dX1_work_25 ?_
        refine z_if_eq (tgt := 94) hx hb dX1_work_26 (by decide) (by cases b k <;> exact ⟨by decide, by decide⟩) (fun hc2 => ?_) (fun hc2 => ?_)
        · have hbk := tc_o_0 hc2
          have hlf := tc_lev_f hbk
          have hk1 := hok (k + 1) (by omega)
          refine lv_aload_n hx hb dX1_work_94 rfl (lv_at hl 0 rfl) ?_
          refine va_get (D := D) (ci := 1) (v := .int (zI (z))) (C := RX1) (T := TX1) (N := 6) hx hb hts in_X1 hown hK hP 0 rfl rfl 3 (by decide) (hts _ q169) (fun _ h9 => h9) rfl dX1_work_95 ?_
          refine z_if_lt (tgt := 114) hx hb dX1_work_98 (by decide) (⟨by omega, by omega⟩) (fun hc3 => ?_) (fun hc3 => ?_)
          · rcases h3 with ⟨a, _⟩ | ⟨p, a, e⟩
            · omega
            · omega
          · obtain ⟨p, hp, ez⟩ : ∃ p, tc_par b p k ∧ z = (tc_cnt b p : Int) := by
              rcases h3 with ⟨_, a⟩ | h
              · omega
              · exact h
            subst ez
            have cp := tc_cnt_lt hp.2.1 hp.1
            obtain ⟨⟨x, hx1, hx2⟩, _⟩ := h4 p hp.1 hp.2.1
            refine lv_aload_n hx hb dX1_work_101 rfl (lv_at hl 0 rfl) ?_
            refine lv_aload_n hx hb dX1_work_102 rfl (lv_at hl 0 rfl) ?_
            refine va_get (D := D) (ci := 1) (v := .ref (A 2)) (C := RX1) (T := TX1) (N := 6) hx hb hts in_X1 hown hK hP 0 rfl rfl 4 (by decide) (hts _ q170) (fun _ h9 => h9) rfl dX1_work_103 ?_
            refine lv_aload_n hx hb dX1_work_106 rfl (lv_at hl 0 rfl) ?_
            refine va_get (D := D) (ci := 1) (v := .int (zI ((tc_cnt b p : Int)))) (C := RX1) (T := TX1) (N := 6) hx hb hts in_X1 hown hK hP 0 rfl rfl 3 (by decide) (hts _ q169) (fun _ h9 => h9) rfl dX1_work_107 ?_
            refine z_iald hx hb hK hP 2 1 rfl rfl (k := tc_cnt b p) (by omega) (by decide) (v := (zI (x))) (hx1) dX1_work_110 ?_
            refine va_put (D := D) (ci := 1) (v := .int (zI (x))) (ty := .int) (C := RX1) (T := TX1) (N := 6) hx hb hts in_X1 tyX1 tyX1_ok nmX1 hown hK hP hD hS 0 rfl rfl 3 (by decide) (hts _ q169) (fun _ h9 => h9) rfl (by decide +kernel) rfl rfl (Nat.le_of_ble_eq_true rfl) dX1_work_111 (fun H locs hP hD hS => ?_)
            have hP : va_P D tc_Cl (tc_mW A d (zI (n : Int)) (bs) (zI (tc_cnt b k : Int)) (zI x) (u1) (d1)) H := hP
            have hD : va_D AA (tc_mW A d (zI (n : Int)) (bs) (zI (tc_cnt b k : Int)) (zI x) (u1) (d1)) := hD
            refine lv_iinc (v := zI (((k + 1 : Nat) : Int))) (lv' := [(1, .int (zI (((k + 1 : Nat) : Int)))), (0, .ref (A 0))]) hx hb dX1_work_114 hl (k := 1) rfl (zI_inc (by omega)) (by decide) rfl (fun ls hl => ?_)
            refine lv_goto (tgt := 12) hx hb dX1_work_117 (by decide) ?_
            exact ih (k + 1) x u1 d1 H locs (by omega) (by omega) (tc_tp_close hbk hp hx2) (tc_TT_keep h4 hbk) (by rw [tc_cnt_f hbk]; exact hP) (by rw [tc_cnt_f hbk]; exact hD) hS ls (lv_sub hl [1, 0] rfl)
        · have hbk := tc_o_1 hc2
          have hlt := tc_lev_t hbk
          refine lv_aload_n hx hb dX1_work_29 rfl (lv_at hl 0 rfl) ?_
          refine va_get (D := D) (ci := 1) (v := .ref (A 2)) (C := RX1) (T := TX1) (N := 6) hx hb hts in_X1 hown hK hP 0 rfl rfl 4 (by decide) (hts _ q170) (fun _ h9 => h9) rfl dX1_work_30 ?_
          refine lv_aload_n hx hb dX1_work_33 rfl (lv_at hl 0 rfl) ?_
          refine va_get (D := D) (ci := 1) (v := .int (zI ((tc_cnt b k : Int)))) (C := RX1) (T := TX1) (N := 6) hx hb hts in_X1 hown hK hP 0 rfl rfl 2 (by decide) (hts _ q168) (fun _ h9 => h9) rfl dX1_work_34 ?_
          refine lv_aload_n hx hb dX1_work_37 rfl (lv_at hl 0 rfl) ?_
          refine va_get (D := D) (ci := 1) (v := .int (zI (z))) (C := RX1) (T := TX1) (N := 6) hx hb hts in_X1 hown hK hP 0 rfl rfl 3 (by decide) (hts _ q169) (fun _ h9 => h9) rfl dX1_work_38 ?_
          refine z_iast hx hb hK hP hD hS 2 1 rfl rfl (k := tc_cnt b k) (by omega) (by decide) dX1_work_41 (fun H locs hP hD hS => ?_)
          have hP : va_P D tc_Cl (tc_mW A d (zI (n : Int)) (bs) (zI (tc_cnt b k : Int)) (zI z) (upd u1 (tc_cnt b k) (zI z)) (d1)) H := hP
          have hD : va_D AA (tc_mW A d (zI (n : Int)) (bs) (zI (tc_cnt b k : Int)) (zI z) (upd u1 (tc_cnt b k) (zI z)) (d1)) := hD
          refine lv_aload_n hx hb dX1_work_42 rfl (lv_at hl 0 rfl) ?_
          refine va_get (D := D) (ci := 1) (v := .ref (A 3)) (C := RX1) (T := TX1) (N := 6) hx hb hts in_X1 hown hK hP 0 rfl rfl 5 (by decide) (hts _ q171) (fun _ h9 => h9) rfl dX1_work_43 ?_
          refine lv_aload_n hx hb dX1_work_46 rfl (lv_at hl 0 rfl) ?_
          refine va_get (D := D) (ci := 1) (v := .int (zI ((tc_cnt b k : Int)))) (C := RX1) (T := TX1) (N := 6) hx hb hts in_X1 hown hK hP 0 rfl rfl 2 (by decide) (hts _ q168) (fun _ h9 => h9) rfl dX1_work_47 ?_
          refine lv_aload_n hx hb dX1_work_50 rfl (lv_at hl 0 rfl) ?_
          refine va_get (D := D) (ci := 1) (v := .int (zI (z))) (C := RX1) (T := TX1) (N := 6) hx hb hts in_X1 hown hK hP 0 rfl rfl 3 (by decide) (hts _ q169) (fun _ h9 => h9) rfl dX1_work_51 ?_
          suffices kM : mu_G p l e s m below meth c yX1_work cX1_work 2 none rmX1_work [.ref (A 0)] (mu_V tc_M4 D (tc_mT d) (fun u => tc_mW A d (zI (n : Int)) bs u.1 u.2.1 u.2.2.1 u.2.2.2) AA (fun u => tc_mQ n b u.1 u.2.1 u.2.2.1 u.2.2.2)) AA H locs (F0 m 72 ls [.int (zI (tc_lev b k)), .int (zI ((tc_cnt b k : Int))), .ref (A 3)]) by
            refine z_if_ge (tgt := 61) hx hb dX1_work_54 (by decide) (⟨by omega, by omega⟩) (fun hc3 => ?_) (fun hc3 => ?_)
            · obtain ⟨p, hp, ez⟩ : ∃ p, tc_par b p k ∧ z = (tc_cnt b p : Int) := by
                rcases h3 with ⟨_, a⟩ | h
                · omega
                · exact h
              have cp := tc_cnt_lt hp.2.1 hp.1
              have hp3 := hp.2.2.1
              refine lv_aload_n hx hb dX1_work_61 rfl (lv_at hl 0 rfl) ?_
              refine va_get (D := D) (ci := 1) (v := .ref (A 3)) (C := RX1) (T := TX1) (N := 6) hx hb hts in_X1 hown hK hP 0 rfl rfl 5 (by decide) (hts _ q171) (fun _ h9 => h9) rfl dX1_work_62 ?_
              refine lv_aload_n hx hb dX1_work_65 rfl (lv_at hl 0 rfl) ?_
              refine va_get (D := D) (ci := 1) (v := .int (zI (z))) (C := RX1) (T := TX1) (N := 6) hx hb hts in_X1 hown hK hP 0 rfl rfl 3 (by decide) (hts _ q169) (fun _ h9 => h9) rfl dX1_work_66 ?_
              refine z_set (y := (tc_cnt b p : Int)) (ez) ?_
              refine z_iald hx hb hK hP 3 2 rfl rfl (k := tc_cnt b p) (by omega) (by decide) (v := (zI (tc_lev b p))) ((h4 p hp.1 hp.2.1).2) dX1_work_69 ?_
              refine lv_iconst (v := zI 1) hx hb dX1_work_70 rfl ?_
              refine z_iadd hx hb dX1_work_71 ?_
              exact z_set (by omega) kM
            · refine lv_iconst (v := zI 0) hx hb dX1_work_57 rfl ?_
              refine lv_goto (tgt := 72) hx hb dX1_work_58 (by decide) ?_
              exact z_set (by rcases h3 with ⟨a, _⟩ | ⟨p, _, a⟩ <;> omega) kM
          refine z_iast hx hb hK hP hD hS 3 2 rfl rfl (k := tc_cnt b k) (by omega) (by decide) dX1_work_72 (fun H locs hP hD hS => ?_)
          have hP : va_P D tc_Cl (tc_mW A d (zI (n : Int)) (bs) (zI (tc_cnt b k : Int)) (zI z) (upd u1 (tc_cnt b k) (zI z)) (upd d1 (tc_cnt b k) (zI (tc_lev b k)))) H := hP
          have hD : va_D AA (tc_mW A d (zI (n : Int)) (bs) (zI (tc_cnt b k : Int)) (zI z) (upd u1 (tc_cnt b k) (zI z)) (upd d1 (tc_cnt b k) (zI (tc_lev b k)))) := hD
          refine lv_aload_n hx hb dX1_work_73 rfl (lv_at hl 0 rfl) ?_
          refine lv_aload_n hx hb dX1_work_74 rfl (lv_at hl 0 rfl) ?_
          refine va_get (D := D) (ci := 1) (v := .int (zI ((tc_cnt b k : Int)))) (C := RX1) (T := TX1) (N := 6) hx hb hts in_X1 hown hK hP 0 rfl rfl 2 (by decide) (hts _ q168) (fun _ h9 => h9) rfl dX1_work_75 ?_
          refine va_put (D := D) (ci := 1) (v := .int (zI ((tc_cnt b k : Int)))) (ty := .int) (C := RX1) (T := TX1) (N := 6) hx hb hts in_X1 tyX1 tyX1_ok nmX1 hown hK hP hD hS 0 rfl rfl 3 (by decide) (hts _ q169) (fun _ h9 => h9) rfl (by decide +kernel) rfl rfl (Nat.le_of_ble_eq_true rfl) dX1_work_78 (fun H locs hP hD hS => ?_)
          have hP : va_P D tc_Cl (tc_mW A d (zI (n : Int)) (bs) (zI (tc_cnt b k : Int)) (zI (tc_cnt b k : Int)) (upd u1 (tc_cnt b k) (zI z)) (upd d1 (tc_cnt b k) (zI (tc_lev b k)))) H := hP
          have hD : va_D AA (tc_mW A d (zI (n : Int)) (bs) (zI (tc_cnt b k : Int)) (zI (tc_cnt b k : Int)) (upd u1 (tc_cnt b k) (zI z)) (upd d1 (tc_cnt b k) (zI (tc_lev b k)))) := hD
          refine lv_aload_n hx hb dX1_work_81 rfl (lv_at hl 0 rfl) ?_
          refine lv_dup hx hb dX1_work_82 rfl ?_
          refine va_get (D := D) (ci := 1) (v := .int (zI ((tc_cnt b k : Int)))) (C := RX1) (T := TX1) (N := 6) hx hb hts in_X1 hown hK hP 0 rfl rfl 2 (by decide) (hts _ q168) (fun _ h9 => h9) rfl dX1_work_83 ?_
          refine lv_iconst (v := zI 1) hx hb dX1_work_86 rfl ?_
          refine z_iadd hx hb dX1_work_87 ?_
          refine z_set (y := (tc_cnt b (k + 1) : Int)) (by rw [tc_cnt_t hbk]; omega) ?_
          refine va_put (D := D) (ci := 1) (v := .int (zI ((tc_cnt b (k + 1) : Int)))) (ty := .int) (C := RX1) (T := TX1) (N := 6) hx hb hts in_X1 tyX1 tyX1_ok nmX1 hown hK hP hD hS 0 rfl rfl 2 (by decide) (hts _ q168) (fun _ h9 => h9) rfl (by decide +kernel) rfl rfl (Nat.le_of_ble_eq_true rfl) dX1_work_88 (fun H locs hP hD hS => ?_)
          have hP : va_P D tc_Cl (tc_mW A d (zI (n : Int)) (bs) (zI (tc_cnt b (k + 1) : Int)) (zI (tc_cnt b k : Int)) (upd u1 (tc_cnt b k) (zI z)) (upd d1 (tc_cnt b k) (zI (tc_lev b k)))) H := hP
          have hD : va_D AA (tc_mW A d (zI (n : Int)) (bs) (zI (tc_cnt b (k + 1) : Int)) (zI (tc_cnt b k : Int)) (upd u1 (tc_cnt b k) (zI z)) (upd d1 (tc_cnt b k) (zI (tc_lev b k)))) := hD
          refine lv_goto (tgt := 114) hx hb dX1_work_91 (by decide) ?_
          refine lv_iinc (v := zI (((k + 1 : Nat) : Int))) (lv' := [(1, .int (zI (((k + 1 : Nat) : Int)))), (0, .ref (A 0))]) hx hb dX1_work_114 hl (k := 1) rfl (zI_inc (by omega)) (by decide) rfl (fun ls hl => ?_)
          refine lv_goto (tgt := 12) hx hb dX1_work_117 (by decide) ?_
          exact ih (k + 1) (tc_cnt b k : Int) _ _ H locs (by omega) (by omega) (tc_tp_open hbk) (tc_TT_push h4 h3 hbk) hP hD hS ls (lv_sub hl [1, 0] rfl)
  refine lv_aload_n hx hb dX1_work_0 rfl (lv_at hl 0 rfl) ?_
  refine lv_iconst (v := zI 0) hx hb dX1_work_1 rfl ?_
  refine z_set (y := (tc_cnt b 0 : Int)) (rfl) ?_
  refine va_put (D := D) (ci := 1) (v := .int (zI ((tc_cnt b 0 : Int)))) (ty := .int) (C := RX1) (T := TX1) (N := 6) hx hb hts in_X1 tyX1 tyX1_ok nmX1 hown hK hP hD hS 0 rfl rfl 2 (by decide) (hts _ q168) (fun _ h9 => h9) rfl (by decide +kernel) rfl rfl (Nat.le_of_ble_eq_true rfl) dX1_work_2 (fun H locs hP hD hS => ?_)
  have hP : va_P D tc_Cl (tc_mW A d (zI (n : Int)) (bs) (zI (tc_cnt b 0 : Int)) (la) (up) (dp)) H := hP
  have hD : va_D AA (tc_mW A d (zI (n : Int)) (bs) (zI (tc_cnt b 0 : Int)) (la) (up) (dp)) := hD
  refine lv_aload_n hx hb dX1_work_5 rfl (lv_at hl 0 rfl) ?_
  refine lv_iconst (v := zI (-1)) hx hb dX1_work_6 rfl ?_
  refine va_put (D := D) (ci := 1) (v := .int (zI ((-1)))) (ty := .int) (C := RX1) (T := TX1) (N := 6) hx hb hts in_X1 tyX1 tyX1_ok nmX1 hown hK hP hD hS 0 rfl rfl 3 (by decide) (hts _ q169) (fun _ h9 => h9) rfl (by decide +kernel) rfl rfl (Nat.le_of_ble_eq_true rfl) dX1_work_7 (fun H locs hP hD hS => ?_)
  have hP : va_P D tc_Cl (tc_mW A d (zI (n : Int)) (bs) (zI (tc_cnt b 0 : Int)) (zI (-1)) (up) (dp)) H := hP
  have hD : va_D AA (tc_mW A d (zI (n : Int)) (bs) (zI (tc_cnt b 0 : Int)) (zI (-1)) (up) (dp)) := hD
  refine lv_iconst (v := zI 0) hx hb dX1_work_10 rfl ?_
  refine lv_istore_n (lv' := [(1, .int (zI (0))), (0, .ref (A 0))]) hx hb dX1_work_11 rfl hl (by decide) rfl (fun ls hl => ?_)
  exact loop (n + 1) 0 (-1) up dp H locs (by omega) (by omega) (Or.inl ⟨tc_lev_0 b, rfl⟩) (fun p hp => absurd hp (Nat.not_lt_zero p)) hP hD hS ls (lv_sub hl [1, 0] rfl)
abbrev rmX1_node : Room := { frames := 1, cells := 0, slots := 0, locals := 21 }
set_option maxHeartbeats 4000000 in
set_option maxRecDepth 100000 in
theorem kM_node (l : Launch) (D : va_G) (A : Nat → Nat) (d : Nat → ClassId) {n : Nat} {b : Nat → Bool} {bs : Nat → Int32} (hn : n ≤ 64) (hok : tc_ok n b) (hbs : tc_bs n b bs) (z : Int) (hz : zs z) (ct la : Int32) (up dp : Nat → Int32) (sz : Nat) : mu_Met l yX1_node cX1_node 2 (some .boolean) rmX1_node D (tc_mW A d (zI (n : Int)) bs ct la up dp) (tc_mT d) sz [.ref (A 0), .int (zI (z))] (mu_Q tc_M4 D (tc_mT d) (fun u => tc_mW A d (zI (n : Int)) bs u.1 u.2.1 u.2.2.1 u.2.2.2) (va_A (tc_mW A d (zI (n : Int)) bs ct la up dp) sz) (fun r u => tc_bit (tc_nd n b (zI z)) r ∧ tc_mQ n b u.1 u.2.1 u.2.2.1 u.2.2.2)) := by
  refine mu_of (by decide) (Nat.le_of_ble_eq_true rfl) ?_
  intro p e s m below meth c ls C hl
  generalize va_A (tc_mW A d (zI (n : Int)) bs ct la up dp) sz = AA at C ⊢
  obtain ⟨hx, hb, hr, hml, hown, hts, hlocks, hP, hK, hD, hA, hS⟩ := C
  have hown : s.vm.findClass RX1 = some m.cls := hown
  have hl : lv_has ls 2 [(0, .ref (A 0)), (1, .int (zI (z)))] := hl
  have cl := tc_cnt_le b n
  refine lv_aload_n hx hb dX1_node_0 rfl (lv_at hl 0 rfl) ?_
  refine mu_callv (n := 0) (wr := []) hx hb hml hown hts (kM_work l D A d hn hok hbs _ _ _ _ s.heap.size) (lw_V q191 q193 qs11 q17 q194) (by decide +kernel) ⟨Nat.le_of_ble_eq_true rfl, Nat.le_of_ble_eq_true rfl⟩ ⟨rfl, rfl⟩ hK hP hD hS hA [0, 1, 2, 3] [] rfl rfl rfl (by decide) (by decide) (by decide) rfl rfl rfl hl rfl (Nat.le_of_ble_eq_true rfl) dX1_node_1 ⟨Nat.le_of_ble_eq_true rfl, Nat.le_of_ble_eq_true rfl⟩ (fun u H locs hU hP hD hS => ?_)
  obtain ⟨ct1, la1, up1, dp1⟩ := u
  have hU : tc_mQ (n) (b) ct1 la1 up1 dp1 := hU
  obtain ⟨rfl, ⟨z1, rfl, hz1⟩, hT1⟩ := hU
  have zb1 := tc_tp_bd hz1
  have hP : va_P D tc_Cl (tc_mW A d (zI (n : Int)) (bs) (zI (tc_cnt b (n) : Int)) (zI z1) (up1) (dp1)) H := hP
  have hD : va_D AA (tc_mW A d (zI (n : Int)) (bs) (zI (tc_cnt b (n) : Int)) (zI z1) (up1) (dp1)) := hD
  refine lv_iload_n hx hb dX1_node_4 rfl (lv_at hl 1 rfl) ?_
  refine z_if_lt (tgt := 20) hx hb dX1_node_5 (by decide) (hz) (fun hc => ?_) (fun hc => ?_)
  · refine lv_iconst (v := zI 0) hx hb dX1_node_20 rfl ?_
    exact mu_zret (u := (zI (tc_cnt b n : Int), zI z1, up1, dp1)) hx hb hr hlocks (by decide) hP hK hD hS ⟨tc_bit_0 (fun q => by have := (tc_nd_iff hn hz).mp q; omega), rfl, ⟨z1, rfl, hz1⟩, hT1⟩ dX1_node_21
  · refine lv_iload_n hx hb dX1_node_8 rfl (lv_at hl 1 rfl) ?_
    refine lv_aload_n hx hb dX1_node_9 rfl (lv_at hl 0 rfl) ?_
    refine va_get (D := D) (ci := 1) (v := .int (zI ((tc_cnt b (n) : Int)))) (C := RX1) (T := TX1) (N := 6) hx hb hts in_X1 hown hK hP 0 rfl rfl 2 (by decide) (hts _ q168) (fun _ h9 => h9) rfl dX1_node_10 ?_
    refine z_icmp_ge (tgt := 20) hx hb dX1_node_13 (by decide) (hz) (⟨by omega, by omega⟩) (fun hc2 => ?_) (fun hc2 => ?_)
    · refine lv_iconst (v := zI 0) hx hb dX1_node_20 rfl ?_
      exact mu_zret (u := (zI (tc_cnt b n : Int), zI z1, up1, dp1)) hx hb hr hlocks (by decide) hP hK hD hS ⟨tc_bit_0 (fun q => by have := (tc_nd_iff hn hz).mp q; omega), rfl, ⟨z1, rfl, hz1⟩, hT1⟩ dX1_node_21
    · refine lv_iconst (v := zI 1) hx hb dX1_node_16 rfl ?_
      refine lv_goto (tgt := 21) hx hb dX1_node_17 (by decide) ?_
      exact mu_zret (u := (zI (tc_cnt b n : Int), zI z1, up1, dp1)) hx hb hr hlocks (by decide) hP hK hD hS ⟨tc_bit_1 ((tc_nd_iff hn hz).mpr ⟨hc, hc2⟩), rfl, ⟨z1, rfl, hz1⟩, hT1⟩ dX1_node_21
abbrev rmX1_nodes : Room := { frames := 1, cells := 0, slots := 0, locals := 21 }
set_option maxHeartbeats 4000000 in
set_option maxRecDepth 100000 in
theorem kM_nodes (l : Launch) (D : va_G) (A : Nat → Nat) (d : Nat → ClassId) {n : Nat} {b : Nat → Bool} {bs : Nat → Int32} (hn : n ≤ 64) (hok : tc_ok n b) (hbs : tc_bs n b bs) (ct la : Int32) (up dp : Nat → Int32) (sz : Nat) : mu_Met l yX1_nodes cX1_nodes 1 (some .int) rmX1_nodes D (tc_mW A d (zI (n : Int)) bs ct la up dp) (tc_mT d) sz [.ref (A 0)] (mu_Q tc_M4 D (tc_mT d) (fun u => tc_mW A d (zI (n : Int)) bs u.1 u.2.1 u.2.2.1 u.2.2.2) (va_A (tc_mW A d (zI (n : Int)) bs ct la up dp) sz) (fun r _ => r = zI (tc_cnt b n : Int))) := by
  refine mu_of (by decide) (Nat.le_of_ble_eq_true rfl) ?_
  intro p e s m below meth c ls C hl
  generalize va_A (tc_mW A d (zI (n : Int)) bs ct la up dp) sz = AA at C ⊢
  obtain ⟨hx, hb, hr, hml, hown, hts, hlocks, hP, hK, hD, hA, hS⟩ := C
  have hown : s.vm.findClass RX1 = some m.cls := hown
  have hl : lv_has ls 1 [(0, .ref (A 0))] := hl
  refine lv_aload_n hx hb dX1_nodes_0 rfl (lv_at hl 0 rfl) ?_
  refine mu_callv (n := 0) (wr := []) hx hb hml hown hts (kM_work l D A d hn hok hbs _ _ _ _ s.heap.size) (lw_V q191 q193 qs11 q17 q194) (by decide +kernel) ⟨Nat.le_of_ble_eq_true rfl, Nat.le_of_ble_eq_true rfl⟩ ⟨rfl, rfl⟩ hK hP hD hS hA [0, 1, 2, 3] [] rfl rfl rfl (by decide) (by decide) (by decide) rfl rfl rfl hl rfl (Nat.le_of_ble_eq_true rfl) dX1_nodes_1 ⟨Nat.le_of_ble_eq_true rfl, Nat.le_of_ble_eq_true rfl⟩ (fun u H locs hU hP hD hS => ?_)
  obtain ⟨ct1, la1, up1, dp1⟩ := u
  have hU : tc_mQ (n) (b) ct1 la1 up1 dp1 := hU
  obtain ⟨rfl, ⟨z1, rfl, hz1⟩, hT1⟩ := hU
  have zb1 := tc_tp_bd hz1
  have hP : va_P D tc_Cl (tc_mW A d (zI (n : Int)) (bs) (zI (tc_cnt b (n) : Int)) (zI z1) (up1) (dp1)) H := hP
  have hD : va_D AA (tc_mW A d (zI (n : Int)) (bs) (zI (tc_cnt b (n) : Int)) (zI z1) (up1) (dp1)) := hD
  refine lv_aload_n hx hb dX1_nodes_4 rfl (lv_at hl 0 rfl) ?_
  refine va_get (D := D) (ci := 1) (v := .int (zI ((tc_cnt b (n) : Int)))) (C := RX1) (T := TX1) (N := 6) hx hb hts in_X1 hown hK hP 0 rfl rfl 2 (by decide) (hts _ q168) (fun _ h9 => h9) rfl dX1_nodes_5 ?_
  exact mu_ret (u := (zI (tc_cnt b (n) : Int), zI z1, up1, dp1)) hx hb hr hlocks hP hK hD hS (rfl) dX1_nodes_8
abbrev rmX1_openNodes : Room := { frames := 1, cells := 0, slots := 0, locals := 21 }
set_option maxHeartbeats 4000000 in
set_option maxRecDepth 100000 in
theorem kM_openNodes (l : Launch) (D : va_G) (A : Nat → Nat) (d : Nat → ClassId) {n : Nat} {b : Nat → Bool} {bs : Nat → Int32} (hn : n ≤ 64) (hok : tc_ok n b) (hbs : tc_bs n b bs) (ct la : Int32) (up dp : Nat → Int32) (sz : Nat) : mu_Met l yX1_openNodes cX1_openNodes 1 (some .int) rmX1_openNodes D (tc_mW A d (zI (n : Int)) bs ct la up dp) (tc_mT d) sz [.ref (A 0)] (mu_Q tc_M4 D (tc_mT d) (fun u => tc_mW A d (zI (n : Int)) bs u.1 u.2.1 u.2.2.1 u.2.2.2) (va_A (tc_mW A d (zI (n : Int)) bs ct la up dp) sz) (fun r _ => r = zI (tc_lev b n))) := by
  refine mu_of (by decide) (Nat.le_of_ble_eq_true rfl) ?_
  intro p e s m below meth c ls C hl
  generalize va_A (tc_mW A d (zI (n : Int)) bs ct la up dp) sz = AA at C ⊢
  obtain ⟨hx, hb, hr, hml, hown, hts, hlocks, hP, hK, hD, hA, hS⟩ := C
  have hown : s.vm.findClass RX1 = some m.cls := hown
  have hl : lv_has ls 1 [(0, .ref (A 0))] := hl
  refine lv_aload_n hx hb dX1_openNodes_0 rfl (lv_at hl 0 rfl) ?_
  refine mu_callv (n := 0) (wr := []) hx hb hml hown hts (kM_work l D A d hn hok hbs _ _ _ _ s.heap.size) (lw_V q191 q193 qs11 q17 q194) (by decide +kernel) ⟨Nat.le_of_ble_eq_true rfl, Nat.le_of_ble_eq_true rfl⟩ ⟨rfl, rfl⟩ hK hP hD hS hA [0, 1, 2, 3] [] rfl rfl rfl (by decide) (by decide) (by decide) rfl rfl rfl hl rfl (Nat.le_of_ble_eq_true rfl) dX1_openNodes_1 ⟨Nat.le_of_ble_eq_true rfl, Nat.le_of_ble_eq_true rfl⟩ (fun u H locs hU hP hD hS => ?_)
  obtain ⟨ct1, la1, up1, dp1⟩ := u
  have hU : tc_mQ (n) (b) ct1 la1 up1 dp1 := hU
  obtain ⟨rfl, ⟨z1, rfl, hz1⟩, hT1⟩ := hU
  have zb1 := tc_tp_bd hz1
  have hP : va_P D tc_Cl (tc_mW A d (zI (n : Int)) (bs) (zI (tc_cnt b (n) : Int)) (zI z1) (up1) (dp1)) H := hP
  have hD : va_D AA (tc_mW A d (zI (n : Int)) (bs) (zI (tc_cnt b (n) : Int)) (zI z1) (up1) (dp1)) := hD
  refine lv_aload_n hx hb dX1_openNodes_4 rfl (lv_at hl 0 rfl) ?_
  refine va_get (D := D) (ci := 1) (v := .int (zI (z1))) (C := RX1) (T := TX1) (N := 6) hx hb hts in_X1 hown hK hP 0 rfl rfl 3 (by decide) (hts _ q169) (fun _ h9 => h9) rfl dX1_openNodes_5 ?_
  refine z_if_ge (tgt := 15) hx hb dX1_openNodes_8 (by decide) (⟨by omega, by omega⟩) (fun hc => ?_) (fun hc => ?_)
  · obtain ⟨p, hp, ez⟩ : ∃ p, tc_par b p n ∧ z1 = (tc_cnt b p : Int) := by
      rcases hz1 with ⟨_, a⟩ | h
      · omega
      · exact h
    have cp := tc_cnt_le b p
    have hp1 := hp.1
    have hp3 := hp.2.2.1
    refine lv_aload_n hx hb dX1_openNodes_15 rfl (lv_at hl 0 rfl) ?_
    refine va_get (D := D) (ci := 1) (v := .ref (A 3)) (C := RX1) (T := TX1) (N := 6) hx hb hts in_X1 hown hK hP 0 rfl rfl 5 (by decide) (hts _ q171) (fun _ h9 => h9) rfl dX1_openNodes_16 ?_
    refine lv_aload_n hx hb dX1_openNodes_19 rfl (lv_at hl 0 rfl) ?_
    refine va_get (D := D) (ci := 1) (v := .int (zI (z1))) (C := RX1) (T := TX1) (N := 6) hx hb hts in_X1 hown hK hP 0 rfl rfl 3 (by decide) (hts _ q169) (fun _ h9 => h9) rfl dX1_openNodes_20 ?_
    refine z_set (y := (tc_cnt b p : Int)) (ez) ?_
    refine z_iald hx hb hK hP 3 2 rfl rfl (k := tc_cnt b p) (by omega) (by decide) (v := (zI (tc_lev b p))) ((hT1 p hp.1 hp.2.1).2) dX1_openNodes_23 ?_
    refine lv_iconst (v := zI 1) hx hb dX1_openNodes_24 rfl ?_
    refine z_iadd hx hb dX1_openNodes_25 ?_
    refine z_set (y := tc_lev b n) (by omega) ?_
    exact mu_ret (u := (zI (tc_cnt b (n) : Int), zI z1, up1, dp1)) hx hb hr hlocks hP hK hD hS (rfl) dX1_openNodes_26
  · refine lv_iconst (v := zI 0) hx hb dX1_openNodes_11 rfl ?_
    refine lv_goto (tgt := 26) hx hb dX1_openNodes_12 (by decide) ?_
    refine z_set (y := tc_lev b n) (by rcases hz1 with ⟨a, _⟩ | ⟨p, _, a⟩ <;> omega) ?_
    exact mu_ret (u := (zI (tc_cnt b (n) : Int), zI z1, up1, dp1)) hx hb hr hlocks hP hK hD hS (rfl) dX1_openNodes_26
abbrev rmX1_under : Room := { frames := 0, cells := 0, slots := 0, locals := 0 }
set_option maxHeartbeats 4000000 in
set_option maxRecDepth 100000 in
theorem kM_under (l : Launch) (D : va_G) (A : Nat → Nat) (d : Nat → ClassId) {n : Nat} {b : Nat → Bool} {bs : Nat → Int32} {la : Int32} {up dp : Nat → Int32} (hn : n ≤ 64) (hok : tc_ok n b) (hT : tc_TT b n up dp) (q p0 : Nat) (hq1 : q < n) (hq2 : b q = true) (hp1 : p0 < n) (hp2 : b p0 = true) : ro_Met l yX1_under cX1_under 4 (some .boolean) rmX1_under D (tc_mW A d (zI (n : Int)) bs (zI (tc_cnt b n : Int)) la up dp) (tc_mT d) [.ref (A 0), .int (zI ((tc_cnt b q : Int))), .int (zI ((tc_cnt b p0 : Int)))] (fun r => tc_bit (tc_anc b p0 q) r) := by
  refine ro_of (by decide) (Nat.le_of_ble_eq_true rfl) ?_
  intro p e s m below meth c ls C hl
  obtain ⟨hx, hb, hr, hml, hown, hts, hlocks, hP, hK⟩ := C
  have hown : s.vm.findClass RX1 = some m.cls := hown
  have hl : lv_has ls 4 [(0, .ref (A 0)), (1, .int (zI ((tc_cnt b q : Int)))), (2, .int (zI ((tc_cnt b p0 : Int))))] := hl
  have cq := tc_cnt_le b q
  have cp := tc_cnt_le b p0
  have loop : ∀ (f : Nat) (x : Int), x + 2 ≤ (f : Int) → -1 ≤ x → x ≤ 64 → ((x = -1 ∧ ¬ tc_anc b p0 q) ∨ ∃ i, i < n ∧ b i = true ∧ x = (tc_cnt b i : Int) ∧ (tc_anc b p0 q ↔ tc_anc b p0 i)) → ∀ (ls : Array Slot), lv_has ls 4 [(0, .ref (A 0)), (1, .int (zI ((tc_cnt b q : Int)))), (2, .int (zI ((tc_cnt b p0 : Int)))), (3, .int (zI (x)))] → ro_G p l e s m below meth c yX1_under cX1_under 4 (some .boolean) rmX1_under [.ref (A 0), .int (zI ((tc_cnt b q : Int))), .int (zI ((tc_cnt b p0 : Int)))] (fun r => tc_bit (tc_anc b p0 q) r) (F0 m 2 ls []) := by
    intro f
    induction f with
    | zero => intro x h1 h2 h3 h4; exact absurd h1 (by omega)
    | succ f ih =>
      intro x h1 h2 h3 h4 ls hl
      refine lv_iload_n hx hb dX1_under_2 rfl (lv_at hl 3 rfl) ?_
      refine z_if_lt (tgt := 21) hx hb dX1_under_3 (by decide) (⟨by omega, by omega⟩) (fun hc => ?_) (fun hc => ?_)
      · refine lv_iload_n hx hb dX1_under_21 rfl (lv_at hl 3 rfl) ?_
        refine z_if_lt (tgt := 29) hx hb dX1_under_22 (by decide) (⟨by omega, by omega⟩) (fun hc2 => ?_) (fun hc2 => ?_)
        · refine lv_iconst (v := zI 0) hx hb dX1_under_29 rfl ?_
          exact ro_zret hx hb hr hlocks (by decide) (tc_bit_0 (by rcases h4 with ⟨_, a⟩ | ⟨i, _, _, a, _⟩; exact a; omega)) dX1_under_30
        · omega
      · refine lv_iload_n hx hb dX1_under_6 rfl (lv_at hl 3 rfl) ?_
        refine lv_iload_n hx hb dX1_under_7 rfl (lv_at hl 2 rfl) ?_
        obtain ⟨i, hi1, hi2, ei, hi4⟩ : ∃ i, i < n ∧ b i = true ∧ x = (tc_cnt b i : Int) ∧ (tc_anc b p0 q ↔ tc_anc b p0 i) := by
          rcases h4 with ⟨a, _⟩ | h
          · omega
          · exact h
        subst ei
        refine z_icmp_eq (tgt := 21) hx hb dX1_under_8 (by decide) (⟨by omega, by omega⟩) (⟨by omega, by omega⟩) (fun hc2 => ?_) (fun hc2 => ?_)
        · have e2 : i = p0 := tc_inj hi2 hp2 (by omega)
          refine lv_iload_n hx hb dX1_under_21 rfl (lv_at hl 3 rfl) ?_
          refine z_if_lt (tgt := 29) hx hb dX1_under_22 (by decide) (⟨by omega, by omega⟩) (fun hc3 => ?_) (fun hc3 => ?_)
          · omega
          · refine lv_iconst (v := zI 1) hx hb dX1_under_25 rfl ?_
            refine lv_goto (tgt := 30) hx hb dX1_under_26 (by decide) ?_
            exact ro_zret hx hb hr hlocks (by decide) (tc_bit_1 (hi4.mpr (by rw [e2]; exact tc_anc_refl b p0))) dX1_under_30
        · have hne : p0 ≠ i := fun q => hc2 (by rw [q])
          have ci := tc_cnt_le b i
          obtain ⟨⟨y, hy1, hy2⟩, _⟩ := hT i hi1 hi2
          refine lv_aload_n hx hb dX1_under_11 rfl (lv_at hl 0 rfl) ?_
          refine va_get (D := D) (ci := 1) (v := .ref (A 2)) (C := RX1) (T := TX1) (N := 6) hx hb hts in_X1 hown hK hP 0 rfl rfl 4 (by decide) (hts _ q170) (fun _ h9 => h9) rfl dX1_under_12 ?_
          refine lv_iload_n hx hb dX1_under_15 rfl (lv_at hl 3 rfl) ?_
          refine z_iald hx hb hK hP 2 1 rfl rfl (k := tc_cnt b i) (by omega) (by decide) (v := (zI (y))) (hy1) dX1_under_16 ?_
          refine lv_istore_n (lv' := [(3, .int (zI (y))), (0, .ref (A 0)), (1, .int (zI ((tc_cnt b q : Int)))), (2, .int (zI ((tc_cnt b p0 : Int))))]) hx hb dX1_under_17 rfl hl (by decide) rfl (fun ls hl => ?_)
          refine lv_goto (tgt := 2) hx hb dX1_under_18 (by decide) ?_
          have yb := tc_tp_bd hy2
          rcases hy2 with ⟨a, e⟩ | ⟨k, a, e⟩
          · exact ih y (by omega) (by omega) (by omega) (Or.inl ⟨e, fun q => tc_anc_root hok (by omega) hne a (hi4.mp q)⟩) ls (lv_sub hl [1, 2, 3, 0] rfl)
          · have ck := tc_cnt_lt a.2.1 a.1
            exact ih y (by omega) (by omega) (by omega) (Or.inr ⟨k, by have := a.1; omega, a.2.1, e, hi4.trans (tc_anc_up hne a)⟩) ls (lv_sub hl [1, 2, 3, 0] rfl)
  refine lv_iload_n hx hb dX1_under_0 rfl (lv_at hl 1 rfl) ?_
  refine lv_istore_n (lv' := [(3, .int (zI ((tc_cnt b q : Int)))), (0, .ref (A 0)), (1, .int (zI ((tc_cnt b q : Int)))), (2, .int (zI ((tc_cnt b p0 : Int))))]) hx hb dX1_under_1 rfl hl (by decide) rfl (fun ls hl => ?_)
  exact loop (tc_cnt b q + 2) (tc_cnt b q : Int) (by omega) (by omega) (by omega) (Or.inr ⟨q, hq1, hq2, rfl, Iff.rfl⟩) ls (lv_sub hl [1, 2, 3, 0] rfl)
abbrev rmX1_childrenOf : Room := { frames := 0, cells := 0, slots := 0, locals := 0 }
set_option maxHeartbeats 4000000 in
set_option maxRecDepth 100000 in
theorem kM_childrenOf (l : Launch) (D : va_G) (A : Nat → Nat) (d : Nat → ClassId) {n : Nat} {b : Nat → Bool} {bs : Nat → Int32} {la : Int32} {up dp : Nat → Int32} (hn : n ≤ 64) (hok : tc_ok n b) (hT : tc_TT b n up dp) (p0 : Nat) (hp1 : p0 < n) (hp2 : b p0 = true) : ro_Met l yX1_childrenOf cX1_childrenOf 4 (some .int) rmX1_childrenOf D (tc_mW A d (zI (n : Int)) bs (zI (tc_cnt b n : Int)) la up dp) (tc_mT d) [.ref (A 0), .int (zI ((tc_cnt b p0 : Int)))] (fun r => r = zI (tc_num (tc_kid b p0) n : Int)) := by
  refine ro_of (by decide) (Nat.le_of_ble_eq_true rfl) ?_
  intro p e s m below meth c ls C hl
  obtain ⟨hx, hb, hr, hml, hown, hts, hlocks, hP, hK⟩ := C
  have hown : s.vm.findClass RX1 = some m.cls := hown
  have hl : lv_has ls 4 [(0, .ref (A 0)), (1, .int (zI ((tc_cnt b p0 : Int))))] := hl
  have cp := tc_cnt_le b p0
  have cn := tc_cnt_le b n
  have loop : ∀ (f : Nat) (q : Nat), n + 1 ≤ q + f → q ≤ n → ∀ (ls : Array Slot), lv_has ls 4 [(0, .ref (A 0)), (1, .int (zI ((tc_cnt b p0 : Int)))), (2, .int (zI ((tc_num (tc_kid b p0) q : Int)))), (3, .int (zI ((tc_cnt b q : Int))))] → ro_G p l e s m below meth c yX1_childrenOf cX1_childrenOf 4 (some .int) rmX1_childrenOf [.ref (A 0), .int (zI ((tc_cnt b p0 : Int)))] (fun r => r = zI (tc_num (tc_kid b p0) n : Int)) (F0 m 4 ls []) := by
    intro f
    induction f with
    | zero => intro q h1 h2; exact absurd h1 (by omega)
    | succ f ih =>
      intro q h1 h2 ls hl
      have cq := tc_cnt_le b q
      refine lv_iload_n hx hb dX1_childrenOf_4 rfl (lv_at hl 3 rfl) ?_
      refine lv_aload_n hx hb dX1_childrenOf_5 rfl (lv_at hl 0 rfl) ?_
      refine va_get (D := D) (ci := 1) (v := .int (zI ((tc_cnt b n : Int)))) (C := RX1) (T := TX1) (N := 6) hx hb hts in_X1 hown hK hP 0 rfl rfl 2 (by decide) (hts _ q168) (fun _ h9 => h9) rfl dX1_childrenOf_6 ?_
      refine z_icmp_ge (tgt := 36) hx hb dX1_childrenOf_9 (by decide) (⟨by omega, by omega⟩) (⟨by omega, by omega⟩) (fun hc => ?_) (fun hc => ?_)
      · have en : tc_num (tc_kid b p0) n = tc_num (tc_kid b p0) q := tc_num_flat h2 (fun k a c w => by have e := tc_flat (b := b) (q := q) (n := n) (by omega) k a c; rw [w.1] at e; cases e)
        refine lv_iload_n hx hb dX1_childrenOf_36 rfl (lv_at hl 2 rfl) ?_
        exact ro_ret hx hb hr hlocks (by rw [en]) dX1_childrenOf_37
      · obtain ⟨r, hr1, hr2, hr3, hr4, hr5⟩ := tc_nxt (b := b) (n := n) (q := q) h2 (by omega)
        have cr := tc_cnt_le b r
        have en : tc_num (tc_kid b p0) r = tc_num (tc_kid b p0) q := tc_num_flat hr1 (fun k a c w => by have e := hr5 k a c; rw [w.1] at e; cases e)
        obtain ⟨⟨x, hx1, hx2⟩, _⟩ := hT r hr2 hr3
        rw [hr4] at hx1
        have xb := tc_tp_bd hx2
        refine lv_aload_n hx hb dX1_childrenOf_12 rfl (lv_at hl 0 rfl) ?_
        refine va_get (D := D) (ci := 1) (v := .ref (A 2)) (C := RX1) (T := TX1) (N := 6) hx hb hts in_X1 hown hK hP 0 rfl rfl 4 (by decide) (hts _ q170) (fun _ h9 => h9) rfl dX1_childrenOf_13 ?_
        refine lv_iload_n hx hb dX1_childrenOf_16 rfl (lv_at hl 3 rfl) ?_
        refine z_iald hx hb hK hP 2 1 rfl rfl (k := tc_cnt b q) (by omega) (by decide) (v := (zI (x))) (hx1) dX1_childrenOf_17 ?_
        refine lv_iload_n hx hb dX1_childrenOf_18 rfl (lv_at hl 1 rfl) ?_
        suffices kM : ro_G p l e s m below meth c yX1_childrenOf cX1_childrenOf 4 (some .int) rmX1_childrenOf [.ref (A 0), .int (zI ((tc_cnt b p0 : Int)))] (fun r => r = zI (tc_num (tc_kid b p0) n : Int)) (F0 m 29 ls [.int (zI ((tc_num (tc_kid b p0) (r + 1) : Int)))]) by
          refine z_icmp_ne (tgt := 28) hx hb dX1_childrenOf_19 (by decide) (⟨by omega, by omega⟩) (⟨by omega, by omega⟩) (fun hc2 => ?_) (fun hc2 => ?_)
          · refine lv_iload_n hx hb dX1_childrenOf_28 rfl (lv_at hl 2 rfl) ?_
            exact z_set (by rw [tc_num_f (fun w => hc2 (tc_par_tp hok (by omega) hx2 w.2)), en]) kM
          · refine lv_iload_n hx hb dX1_childrenOf_22 rfl (lv_at hl 2 rfl) ?_
            refine lv_iconst (v := zI 1) hx hb dX1_childrenOf_23 rfl ?_
            refine z_iadd hx hb dX1_childrenOf_24 ?_
            refine lv_goto (tgt := 29) hx hb dX1_childrenOf_25 (by decide) ?_
            exact z_set (by rw [tc_num_t (P := tc_kid b p0) ⟨hr3, tc_tp_par hp2 hx2 hc2⟩, en]; omega) kM
        refine lv_istore_n (lv' := [(2, .int (zI ((tc_num (tc_kid b p0) (r + 1) : Int)))), (0, .ref (A 0)), (1, .int (zI ((tc_cnt b p0 : Int)))), (3, .int (zI ((tc_cnt b q : Int))))]) hx hb dX1_childrenOf_29 rfl hl (by decide) rfl (fun ls hl => ?_)
        refine lv_iinc (v := zI ((tc_cnt b (r + 1) : Int))) (lv' := [(3, .int (zI ((tc_cnt b (r + 1) : Int)))), (2, .int (zI ((tc_num (tc_kid b p0) (r + 1) : Int)))), (0, .ref (A 0)), (1, .int (zI ((tc_cnt b p0 : Int))))]) hx hb dX1_childrenOf_30 hl (k := 3) rfl (zI_inc (by rw [tc_cnt_t hr3]; omega)) (by decide) rfl (fun ls hl => ?_)
        refine lv_goto (tgt := 4) hx hb dX1_childrenOf_33 (by decide) ?_
        exact ih (r + 1) (by omega) (by omega) ls (lv_sub hl [2, 3, 1, 0] rfl)
  refine lv_iconst (v := zI 0) hx hb dX1_childrenOf_0 rfl ?_
  refine z_set (y := (tc_num (tc_kid b p0) 0 : Int)) (rfl) ?_
  refine lv_istore_n (lv' := [(2, .int (zI ((tc_num (tc_kid b p0) 0 : Int)))), (0, .ref (A 0)), (1, .int (zI ((tc_cnt b p0 : Int))))]) hx hb dX1_childrenOf_1 rfl hl (by decide) rfl (fun ls hl => ?_)
  refine lv_iconst (v := zI 0) hx hb dX1_childrenOf_2 rfl ?_
  refine z_set (y := (tc_cnt b 0 : Int)) (rfl) ?_
  refine lv_istore_n (lv' := [(3, .int (zI ((tc_cnt b 0 : Int)))), (2, .int (zI ((tc_num (tc_kid b p0) 0 : Int)))), (0, .ref (A 0)), (1, .int (zI ((tc_cnt b p0 : Int))))]) hx hb dX1_childrenOf_3 rfl hl (by decide) rfl (fun ls hl => ?_)
  exact loop (n + 1) 0 (by omega) (by omega) ls (lv_sub hl [2, 3, 1, 0] rfl)
end
section
abbrev rmX1_parent : Room := { frames := 2, cells := 0, slots := 0, locals := 42 }
set_option maxHeartbeats 4000000 in
set_option maxRecDepth 100000 in
theorem kM_parent (l : Launch) (D : va_G) (A : Nat → Nat) (d : Nat → ClassId) {n : Nat} {b : Nat → Bool} {bs : Nat → Int32} (hn : n ≤ 64) (hok : tc_ok n b) (hbs : tc_bs n b bs) (z : Int) (hz : zs z) (ct la : Int32) (up dp : Nat → Int32) (sz : Nat) : mu_Met l yX1_parent cX1_parent 2 (some .int) rmX1_parent D (tc_mW A d (zI (n : Int)) bs ct la up dp) (tc_mT d) sz [.ref (A 0), .int (zI (z))] (mu_Q tc_M4 D (tc_mT d) (fun u => tc_mW A d (zI (n : Int)) bs u.1 u.2.1 u.2.2.1 u.2.2.2) (va_A (tc_mW A d (zI (n : Int)) bs ct la up dp) sz) (fun r _ => tc_S n b (tc_tp b) (zI z) r)) := by
  refine mu_of (by decide) (Nat.le_of_ble_eq_true rfl) ?_
  intro p e s m below meth c ls C hl
  generalize va_A (tc_mW A d (zI (n : Int)) bs ct la up dp) sz = AA at C ⊢
  obtain ⟨hx, hb, hr, hml, hown, hts, hlocks, hP, hK, hD, hA, hS⟩ := C
  have hown : s.vm.findClass RX1 = some m.cls := hown
  have hl : lv_has ls 2 [(0, .ref (A 0)), (1, .int (zI (z)))] := hl
  have cn := tc_cnt_le b n
  refine lv_aload_n hx hb dX1_parent_0 rfl (lv_at hl 0 rfl) ?_
  refine lv_iload_n hx hb dX1_parent_1 rfl (lv_at hl 1 rfl) ?_
  refine mu_call (n := 1) (wr := []) hx hb hml hown hts (kM_node l D A d hn hok hbs z hz _ _ _ _ s.heap.size) (lw_V q215 q217 qs12 q17 q218) (by decide +kernel) ⟨Nat.le_of_ble_eq_true rfl, Nat.le_of_ble_eq_true rfl⟩ ⟨rfl, rfl⟩ hK hP hD hS hA [0, 1, 2, 3] [] rfl rfl rfl (by decide) (by decide) (by decide) rfl rfl rfl hl rfl (Nat.le_of_ble_eq_true rfl) dX1_parent_2 ⟨Nat.le_of_ble_eq_true rfl, Nat.le_of_ble_eq_true rfl⟩ (fun rb u H locs hU hP hD hS => ?_)
  obtain ⟨ct1, la1, up1, dp1⟩ := u
  have hN : tc_bit (tc_nd n b (zI (z))) rb := hU.1
  have hU : tc_mQ n b ct1 la1 up1 dp1 := hU.2
  obtain ⟨rfl, ⟨z1, rfl, hz1⟩, hT1⟩ := hU
  have zb1 := tc_tp_bd hz1
  have hP : va_P D tc_Cl (tc_mW A d (zI (n : Int)) (bs) (zI (tc_cnt b (n) : Int)) (zI z1) (up1) (dp1)) H := hP
  have hD : va_D AA (tc_mW A d (zI (n : Int)) (bs) (zI (tc_cnt b (n) : Int)) (zI z1) (up1) (dp1)) := hD
  refine t_if_eq (tgt := 17) hx hb dX1_parent_5 (by decide) hN (fun hc => ?_) (fun hc => ?_)
  · refine lv_iconst (v := zI (-1)) hx hb dX1_parent_17 rfl ?_
    exact mu_ret (u := (zI (tc_cnt b (n) : Int), zI z1, up1, dp1)) hx hb hr hlocks hP hK hD hS (Or.inl ⟨hc, rfl⟩) dX1_parent_18
  · obtain ⟨p0, hp01, hp02, hp00⟩ := tc_nd_ob hn hz hc
    subst hp00
    have hNp0 : tc_isN n b p0 (zI (tc_cnt b p0 : Int)) := ⟨hp01, hp02, rfl⟩
    have cp0 := tc_cnt_le b p0
    obtain ⟨⟨xp0, hxp01, hxp02⟩, hdp0⟩ := hT1 p0 hp01 hp02
    have xbp0 := tc_tp_bd hxp02
    refine lv_aload_n hx hb dX1_parent_8 rfl (lv_at hl 0 rfl) ?_
    refine va_get (D := D) (ci := 1) (v := .ref (A 2)) (C := RX1) (T := TX1) (N := 6) hx hb hts in_X1 hown hK hP 0 rfl rfl 4 (by decide) (hts _ q170) (fun _ h9 => h9) rfl dX1_parent_9 ?_
    refine lv_iload_n hx hb dX1_parent_12 rfl (lv_at hl 1 rfl) ?_
    refine z_iald hx hb hK hP 2 1 rfl rfl (k := tc_cnt b p0) (by omega) (by decide) (v := (zI (xp0))) (hxp01) dX1_parent_13 ?_
    refine lv_goto (tgt := 18) hx hb dX1_parent_14 (by decide) ?_
    exact mu_ret (u := (zI (tc_cnt b (n) : Int), zI z1, up1, dp1)) hx hb hr hlocks hP hK hD hS (Or.inr ⟨p0, xp0, hNp0, hxp02, rfl⟩) dX1_parent_18
abbrev rmX1_depth : Room := { frames := 2, cells := 0, slots := 0, locals := 42 }
set_option maxHeartbeats 4000000 in
set_option maxRecDepth 100000 in
theorem kM_depth (l : Launch) (D : va_G) (A : Nat → Nat) (d : Nat → ClassId) {n : Nat} {b : Nat → Bool} {bs : Nat → Int32} (hn : n ≤ 64) (hok : tc_ok n b) (hbs : tc_bs n b bs) (z : Int) (hz : zs z) (ct la : Int32) (up dp : Nat → Int32) (sz : Nat) : mu_Met l yX1_depth cX1_depth 2 (some .int) rmX1_depth D (tc_mW A d (zI (n : Int)) bs ct la up dp) (tc_mT d) sz [.ref (A 0), .int (zI (z))] (mu_Q tc_M4 D (tc_mT d) (fun u => tc_mW A d (zI (n : Int)) bs u.1 u.2.1 u.2.2.1 u.2.2.2) (va_A (tc_mW A d (zI (n : Int)) bs ct la up dp) sz) (fun r _ => tc_S n b (fun p x => x = tc_lev b p) (zI z) r)) := by
  refine mu_of (by decide) (Nat.le_of_ble_eq_true rfl) ?_
  intro p e s m below meth c ls C hl
  generalize va_A (tc_mW A d (zI (n : Int)) bs ct la up dp) sz = AA at C ⊢
  obtain ⟨hx, hb, hr, hml, hown, hts, hlocks, hP, hK, hD, hA, hS⟩ := C
  have hown : s.vm.findClass RX1 = some m.cls := hown
  have hl : lv_has ls 2 [(0, .ref (A 0)), (1, .int (zI (z)))] := hl
  have cn := tc_cnt_le b n
  refine lv_aload_n hx hb dX1_depth_0 rfl (lv_at hl 0 rfl) ?_
  refine lv_iload_n hx hb dX1_depth_1 rfl (lv_at hl 1 rfl) ?_
  refine mu_call (n := 1) (wr := []) hx hb hml hown hts (kM_node l D A d hn hok hbs z hz _ _ _ _ s.heap.size) (lw_V q215 q217 qs12 q17 q218) (by decide +kernel) ⟨Nat.le_of_ble_eq_true rfl, Nat.le_of_ble_eq_true rfl⟩ ⟨rfl, rfl⟩ hK hP hD hS hA [0, 1, 2, 3] [] rfl rfl rfl (by decide) (by decide) (by decide) rfl rfl rfl hl rfl (Nat.le_of_ble_eq_true rfl) dX1_depth_2 ⟨Nat.le_of_ble_eq_true rfl, Nat.le_of_ble_eq_true rfl⟩ (fun rb u H locs hU hP hD hS => ?_)
  obtain ⟨ct1, la1, up1, dp1⟩ := u
  have hN : tc_bit (tc_nd n b (zI (z))) rb := hU.1
  have hU : tc_mQ n b ct1 la1 up1 dp1 := hU.2
  obtain ⟨rfl, ⟨z1, rfl, hz1⟩, hT1⟩ := hU
  have zb1 := tc_tp_bd hz1
  have hP : va_P D tc_Cl (tc_mW A d (zI (n : Int)) (bs) (zI (tc_cnt b (n) : Int)) (zI z1) (up1) (dp1)) H := hP
  have hD : va_D AA (tc_mW A d (zI (n : Int)) (bs) (zI (tc_cnt b (n) : Int)) (zI z1) (up1) (dp1)) := hD
  refine t_if_eq (tgt := 17) hx hb dX1_depth_5 (by decide) hN (fun hc => ?_) (fun hc => ?_)
  · refine lv_iconst (v := zI (-1)) hx hb dX1_depth_17 rfl ?_
    exact mu_ret (u := (zI (tc_cnt b (n) : Int), zI z1, up1, dp1)) hx hb hr hlocks hP hK hD hS (Or.inl ⟨hc, rfl⟩) dX1_depth_18
  · obtain ⟨p0, hp01, hp02, hp00⟩ := tc_nd_ob hn hz hc
    subst hp00
    have hNp0 : tc_isN n b p0 (zI (tc_cnt b p0 : Int)) := ⟨hp01, hp02, rfl⟩
    have cp0 := tc_cnt_le b p0
    obtain ⟨⟨xp0, hxp01, hxp02⟩, hdp0⟩ := hT1 p0 hp01 hp02
    have xbp0 := tc_tp_bd hxp02
    refine lv_aload_n hx hb dX1_depth_8 rfl (lv_at hl 0 rfl) ?_
    refine va_get (D := D) (ci := 1) (v := .ref (A 3)) (C := RX1) (T := TX1) (N := 6) hx hb hts in_X1 hown hK hP 0 rfl rfl 5 (by decide) (hts _ q171) (fun _ h9 => h9) rfl dX1_depth_9 ?_
    refine lv_iload_n hx hb dX1_depth_12 rfl (lv_at hl 1 rfl) ?_
    refine z_iald hx hb hK hP 3 2 rfl rfl (k := tc_cnt b p0) (by omega) (by decide) (v := (zI (tc_lev b p0))) (hdp0) dX1_depth_13 ?_
    refine lv_goto (tgt := 18) hx hb dX1_depth_14 (by decide) ?_
    exact mu_ret (u := (zI (tc_cnt b (n) : Int), zI z1, up1, dp1)) hx hb hr hlocks hP hK hD hS (Or.inr ⟨p0, _, hNp0, rfl, rfl⟩) dX1_depth_18
abbrev rmX1_children : Room := { frames := 2, cells := 0, slots := 0, locals := 42 }
set_option maxHeartbeats 4000000 in
set_option maxRecDepth 100000 in
theorem kM_children (l : Launch) (D : va_G) (A : Nat → Nat) (d : Nat → ClassId) {n : Nat} {b : Nat → Bool} {bs : Nat → Int32} (hn : n ≤ 64) (hok : tc_ok n b) (hbs : tc_bs n b bs) (z : Int) (hz : zs z) (ct la : Int32) (up dp : Nat → Int32) (sz : Nat) : mu_Met l yX1_children cX1_children 2 (some .int) rmX1_children D (tc_mW A d (zI (n : Int)) bs ct la up dp) (tc_mT d) sz [.ref (A 0), .int (zI (z))] (mu_Q tc_M4 D (tc_mT d) (fun u => tc_mW A d (zI (n : Int)) bs u.1 u.2.1 u.2.2.1 u.2.2.2) (va_A (tc_mW A d (zI (n : Int)) bs ct la up dp) sz) (fun r _ => tc_S n b (tc_Rchildren n b) (zI z) r)) := by
  refine mu_of (by decide) (Nat.le_of_ble_eq_true rfl) ?_
  intro p e s m below meth c ls C hl
  generalize va_A (tc_mW A d (zI (n : Int)) bs ct la up dp) sz = AA at C ⊢
  obtain ⟨hx, hb, hr, hml, hown, hts, hlocks, hP, hK, hD, hA, hS⟩ := C
  have hown : s.vm.findClass RX1 = some m.cls := hown
  have hl : lv_has ls 2 [(0, .ref (A 0)), (1, .int (zI (z)))] := hl
  have cn := tc_cnt_le b n
  refine lv_aload_n hx hb dX1_children_0 rfl (lv_at hl 0 rfl) ?_
  refine lv_iload_n hx hb dX1_children_1 rfl (lv_at hl 1 rfl) ?_
  refine mu_call (n := 1) (wr := []) hx hb hml hown hts (kM_node l D A d hn hok hbs z hz _ _ _ _ s.heap.size) (lw_V q215 q217 qs12 q17 q218) (by decide +kernel) ⟨Nat.le_of_ble_eq_true rfl, Nat.le_of_ble_eq_true rfl⟩ ⟨rfl, rfl⟩ hK hP hD hS hA [0, 1, 2, 3] [] rfl rfl rfl (by decide) (by decide) (by decide) rfl rfl rfl hl rfl (Nat.le_of_ble_eq_true rfl) dX1_children_2 ⟨Nat.le_of_ble_eq_true rfl, Nat.le_of_ble_eq_true rfl⟩ (fun rb u H locs hU hP hD hS => ?_)
  obtain ⟨ct1, la1, up1, dp1⟩ := u
  have hN : tc_bit (tc_nd n b (zI (z))) rb := hU.1
  have hU : tc_mQ n b ct1 la1 up1 dp1 := hU.2
  obtain ⟨rfl, ⟨z1, rfl, hz1⟩, hT1⟩ := hU
  have zb1 := tc_tp_bd hz1
  have hP : va_P D tc_Cl (tc_mW A d (zI (n : Int)) (bs) (zI (tc_cnt b (n) : Int)) (zI z1) (up1) (dp1)) H := hP
  have hD : va_D AA (tc_mW A d (zI (n : Int)) (bs) (zI (tc_cnt b (n) : Int)) (zI z1) (up1) (dp1)) := hD
  refine t_if_eq (tgt := 16) hx hb dX1_children_5 (by decide) hN (fun hc => ?_) (fun hc => ?_)
  · refine lv_iconst (v := zI (-1)) hx hb dX1_children_16 rfl ?_
    exact mu_ret (u := (zI (tc_cnt b (n) : Int), zI z1, up1, dp1)) hx hb hr hlocks hP hK hD hS (Or.inl ⟨hc, rfl⟩) dX1_children_17
  · obtain ⟨p0, hp01, hp02, hp00⟩ := tc_nd_ob hn hz hc
    subst hp00
    have hNp0 : tc_isN n b p0 (zI (tc_cnt b p0 : Int)) := ⟨hp01, hp02, rfl⟩
    have cp0 := tc_cnt_le b p0
    obtain ⟨⟨xp0, hxp01, hxp02⟩, hdp0⟩ := hT1 p0 hp01 hp02
    have xbp0 := tc_tp_bd hxp02
    refine lv_aload_n hx hb dX1_children_8 rfl (lv_at hl 0 rfl) ?_
    refine lv_iload_n hx hb dX1_children_9 rfl (lv_at hl 1 rfl) ?_
    refine ro_calle (n := 1) hx hb hml hown hts (kM_childrenOf l D A d hn hok hT1 p0 hp01 hp02) (lw_V q235 q237 qs14 q17 q238) (by decide +kernel) ⟨Nat.le_of_ble_eq_true rfl, Nat.le_of_ble_eq_true rfl⟩ ⟨rfl, rfl⟩ hK hP rfl rfl rfl hl rfl (Nat.le_of_ble_eq_true rfl) dX1_children_10 ⟨Nat.le_of_ble_eq_true rfl, Nat.le_of_ble_eq_true rfl⟩ ?_
    refine lv_goto (tgt := 17) hx hb dX1_children_13 (by decide) ?_
    exact mu_ret (u := (zI (tc_cnt b (n) : Int), zI z1, up1, dp1)) hx hb hr hlocks hP hK hD hS (Or.inr ⟨p0, _, hNp0, rfl, rfl⟩) dX1_children_17
abbrev rmX1_size : Room := { frames := 2, cells := 0, slots := 0, locals := 42 }
set_option maxHeartbeats 4000000 in
set_option maxRecDepth 100000 in
theorem kM_size (l : Launch) (D : va_G) (A : Nat → Nat) (d : Nat → ClassId) {n : Nat} {b : Nat → Bool} {bs : Nat → Int32} (hn : n ≤ 64) (hok : tc_ok n b) (hbs : tc_bs n b bs) (z : Int) (hz : zs z) (ct la : Int32) (up dp : Nat → Int32) (sz : Nat) : mu_Met l yX1_size cX1_size 4 (some .int) rmX1_size D (tc_mW A d (zI (n : Int)) bs ct la up dp) (tc_mT d) sz [.ref (A 0), .int (zI (z))] (mu_Q tc_M4 D (tc_mT d) (fun u => tc_mW A d (zI (n : Int)) bs u.1 u.2.1 u.2.2.1 u.2.2.2) (va_A (tc_mW A d (zI (n : Int)) bs ct la up dp) sz) (fun r _ => tc_S n b (tc_Rsize n b) (zI z) r)) := by
  refine mu_of (by decide) (Nat.le_of_ble_eq_true rfl) ?_
  intro p e s m below meth c ls C hl
  generalize va_A (tc_mW A d (zI (n : Int)) bs ct la up dp) sz = AA at C ⊢
  obtain ⟨hx, hb, hr, hml, hown, hts, hlocks, hP, hK, hD, hA, hS⟩ := C
  have hown : s.vm.findClass RX1 = some m.cls := hown
  have hl : lv_has ls 4 [(0, .ref (A 0)), (1, .int (zI (z)))] := hl
  have cn := tc_cnt_le b n
  refine lv_aload_n hx hb dX1_size_0 rfl (lv_at hl 0 rfl) ?_
  refine lv_iload_n hx hb dX1_size_1 rfl (lv_at hl 1 rfl) ?_
  refine mu_call (n := 1) (wr := []) hx hb hml hown hts (kM_node l D A d hn hok hbs z hz _ _ _ _ s.heap.size) (lw_V q215 q217 qs12 q17 q218) (by decide +kernel) ⟨Nat.le_of_ble_eq_true rfl, Nat.le_of_ble_eq_true rfl⟩ ⟨rfl, rfl⟩ hK hP hD hS hA [0, 1, 2, 3] [] rfl rfl rfl (by decide) (by decide) (by decide) rfl rfl rfl hl rfl (Nat.le_of_ble_eq_true rfl) dX1_size_2 ⟨Nat.le_of_ble_eq_true rfl, Nat.le_of_ble_eq_true rfl⟩ (fun rb u H locs hU hP hD hS => ?_)
  obtain ⟨ct1, la1, up1, dp1⟩ := u
  have hN : tc_bit (tc_nd n b (zI (z))) rb := hU.1
  have hU : tc_mQ n b ct1 la1 up1 dp1 := hU.2
  obtain ⟨rfl, ⟨z1, rfl, hz1⟩, hT1⟩ := hU
  have zb1 := tc_tp_bd hz1
  have hP : va_P D tc_Cl (tc_mW A d (zI (n : Int)) (bs) (zI (tc_cnt b (n) : Int)) (zI z1) (up1) (dp1)) H := hP
  have hD : va_D AA (tc_mW A d (zI (n : Int)) (bs) (zI (tc_cnt b (n) : Int)) (zI z1) (up1) (dp1)) := hD
  refine t_if_ne (tgt := 10) hx hb dX1_size_5 (by decide) hN (fun hc => ?_) (fun hc => ?_)
  · obtain ⟨p0, hp01, hp02, hp00⟩ := tc_nd_ob hn hz hc
    subst hp00
    have hNp0 : tc_isN n b p0 (zI (tc_cnt b p0 : Int)) := ⟨hp01, hp02, rfl⟩
    have cp0 := tc_cnt_le b p0
    obtain ⟨⟨xp0, hxp01, hxp02⟩, hdp0⟩ := hT1 p0 hp01 hp02
    have xbp0 := tc_tp_bd hxp02
    obtain ⟨e0, he⟩ := tc_end_ex hp01 hp02
    have ce1 := tc_cnt_mono (b := b) he.2.1
    have ce2 := tc_cnt_lt hp02 he.1
    have loop : ∀ (f : Nat) (q : Nat), n + 1 ≤ q + f → q ≤ n → ∀ (ls : Array Slot), lv_has ls 4 [(0, .ref (A 0)), (1, .int (zI ((tc_cnt b p0 : Int)))), (2, .int (zI (max 0 (min (tc_cnt b q : Int) (tc_cnt b e0 : Int) - (tc_cnt b p0 : Int))))), (3, .int (zI ((tc_cnt b q : Int))))] → mu_G p l e s m below meth c yX1_size cX1_size 4 (some .int) rmX1_size [.ref (A 0), .int (zI ((tc_cnt b p0 : Int)))] (mu_Q tc_M4 D (tc_mT d) (fun u => tc_mW A d (zI (n : Int)) bs u.1 u.2.1 u.2.2.1 u.2.2.2) AA (fun r _ => tc_S n b (tc_Rsize n b) (zI ((tc_cnt b p0 : Int))) r)) AA H locs (F0 m 14 ls []) := by
      intro f
      induction f with
      | zero => intro q h1 h2; exact absurd h1 (by omega)
      | succ f ih =>
        intro q h1 h2 ls hl
        have cq := tc_cnt_le b q
        have cq2 := tc_cnt_mono (b := b) h2
        refine lv_iload_n hx hb dX1_size_14 rfl (lv_at hl 3 rfl) ?_
        refine lv_aload_n hx hb dX1_size_15 rfl (lv_at hl 0 rfl) ?_
        refine va_get (D := D) (ci := 1) (v := .int (zI ((tc_cnt b (n) : Int)))) (C := RX1) (T := TX1) (N := 6) hx hb hts in_X1 hown hK hP 0 rfl rfl 2 (by decide) (hts _ q168) (fun _ h9 => h9) rfl dX1_size_16 ?_
        refine z_icmp_ge (tgt := 45) hx hb dX1_size_19 (by decide) (⟨by omega, by omega⟩) (⟨by omega, by omega⟩) (fun hc2 => ?_) (fun hc2 => ?_)
        · refine lv_iload_n hx hb dX1_size_45 rfl (lv_at hl 2 rfl) ?_
          refine z_set (y := (tc_cnt b e0 : Int) - (tc_cnt b p0 : Int)) (by omega) ?_
          exact mu_ret (u := (zI (tc_cnt b (n) : Int), zI z1, up1, dp1)) hx hb hr hlocks hP hK hD hS (Or.inr ⟨p0, _, hNp0, ⟨e0, he, rfl⟩, rfl⟩) dX1_size_46
        · obtain ⟨r, hr1, hr2, hr3, hr4, hr5⟩ := tc_nxt (b := b) (n := n) (q := q) h2 (by omega)
          have cr := tc_cnt_le b r
          have ha := tc_anc_num he hr2 hr3
          rw [hr4] at ha
          refine lv_aload_n hx hb dX1_size_22 rfl (lv_at hl 0 rfl) ?_
          refine lv_iload_n hx hb dX1_size_23 rfl (lv_at hl 3 rfl) ?_
          refine z_set (y := (tc_cnt b r : Int)) (by rw [hr4]) ?_
          refine lv_iload_n hx hb dX1_size_24 rfl (lv_at hl 1 rfl) ?_
          refine ro_call (n := 2) hx hb hml hown hts (kM_under l D A d hn hok hT1 r p0 hr2 hr3 hp01 hp02) (lw_V q227 q229 qs13 q17 q230) (by decide +kernel) ⟨Nat.le_of_ble_eq_true rfl, Nat.le_of_ble_eq_true rfl⟩ ⟨rfl, rfl⟩ hK hP rfl rfl rfl hl rfl (Nat.le_of_ble_eq_true rfl) dX1_size_25 ⟨Nat.le_of_ble_eq_true rfl, Nat.le_of_ble_eq_true rfl⟩ (fun r25 hB => ?_)
          suffices kM : mu_G p l e s m below meth c yX1_size cX1_size 4 (some .int) rmX1_size [.ref (A 0), .int (zI ((tc_cnt b p0 : Int)))] (mu_Q tc_M4 D (tc_mT d) (fun u => tc_mW A d (zI (n : Int)) bs u.1 u.2.1 u.2.2.1 u.2.2.2) AA (fun r _ => tc_S n b (tc_Rsize n b) (zI ((tc_cnt b p0 : Int))) r)) AA H locs (F0 m 38 ls [.int (zI (max 0 (min (tc_cnt b (r + 1) : Int) (tc_cnt b e0 : Int) - (tc_cnt b p0 : Int))))]) by
            refine t_if_eq (tgt := 37) hx hb dX1_size_28 (by decide) hB (fun hc3 => ?_) (fun hc3 => ?_)
            · refine lv_iload_n hx hb dX1_size_37 rfl (lv_at hl 2 rfl) ?_
              exact z_set (by rw [tc_cnt_t hr3]; have hb2 := mt ha.mpr hc3; omega) kM
            · refine lv_iload_n hx hb dX1_size_31 rfl (lv_at hl 2 rfl) ?_
              refine lv_iconst (v := zI 1) hx hb dX1_size_32 rfl ?_
              refine z_iadd hx hb dX1_size_33 ?_
              refine lv_goto (tgt := 38) hx hb dX1_size_34 (by decide) ?_
              exact z_set (by rw [tc_cnt_t hr3]; have hb2 := ha.mp hc3; omega) kM
          refine lv_istore_n (lv' := [(2, .int (zI (max 0 (min (tc_cnt b (r + 1) : Int) (tc_cnt b e0 : Int) - (tc_cnt b p0 : Int))))), (0, .ref (A 0)), (1, .int (zI ((tc_cnt b p0 : Int)))), (3, .int (zI ((tc_cnt b q : Int))))]) hx hb dX1_size_38 rfl hl (by decide) rfl (fun ls hl => ?_)
          refine lv_iinc (v := zI ((tc_cnt b (r + 1) : Int))) (lv' := [(3, .int (zI ((tc_cnt b (r + 1) : Int)))), (2, .int (zI (max 0 (min (tc_cnt b (r + 1) : Int) (tc_cnt b e0 : Int) - (tc_cnt b p0 : Int))))), (0, .ref (A 0)), (1, .int (zI ((tc_cnt b p0 : Int))))]) hx hb dX1_size_39 hl (k := 3) rfl (zI_inc (by rw [tc_cnt_t hr3]; omega)) (by decide) rfl (fun ls hl => ?_)
          refine lv_goto (tgt := 14) hx hb dX1_size_42 (by decide) ?_
          exact ih (r + 1) (by omega) (by omega) ls (lv_sub hl [2, 3, 1, 0] rfl)
    refine lv_iconst (v := zI 0) hx hb dX1_size_10 rfl ?_
    refine z_set (y := max 0 (min (tc_cnt b 0 : Int) (tc_cnt b e0 : Int) - (tc_cnt b p0 : Int))) (by rw [tc_cnt_0]; omega) ?_
    refine lv_istore_n (lv' := [(2, .int (zI (max 0 (min (tc_cnt b 0 : Int) (tc_cnt b e0 : Int) - (tc_cnt b p0 : Int))))), (0, .ref (A 0)), (1, .int (zI ((tc_cnt b p0 : Int))))]) hx hb dX1_size_11 rfl hl (by decide) rfl (fun ls hl => ?_)
    refine lv_iconst (v := zI 0) hx hb dX1_size_12 rfl ?_
    refine z_set (y := (tc_cnt b 0 : Int)) (rfl) ?_
    refine lv_istore_n (lv' := [(3, .int (zI ((tc_cnt b 0 : Int)))), (2, .int (zI (max 0 (min (tc_cnt b 0 : Int) (tc_cnt b e0 : Int) - (tc_cnt b p0 : Int))))), (0, .ref (A 0)), (1, .int (zI ((tc_cnt b p0 : Int))))]) hx hb dX1_size_13 rfl hl (by decide) rfl (fun ls hl => ?_)
    exact loop (n + 1) 0 (by omega) (by omega) ls (lv_sub hl [2, 3, 1, 0] rfl)
  · refine lv_iconst (v := zI (-1)) hx hb dX1_size_8 rfl ?_
    exact mu_ret (u := (zI (tc_cnt b (n) : Int), zI z1, up1, dp1)) hx hb hr hlocks hP hK hD hS (Or.inl ⟨hc, rfl⟩) dX1_size_9
abbrev rmX1_height : Room := { frames := 2, cells := 0, slots := 0, locals := 42 }
set_option maxHeartbeats 4000000 in
set_option maxRecDepth 100000 in
theorem kM_height (l : Launch) (D : va_G) (A : Nat → Nat) (d : Nat → ClassId) {n : Nat} {b : Nat → Bool} {bs : Nat → Int32} (hn : n ≤ 64) (hok : tc_ok n b) (hbs : tc_bs n b bs) (z : Int) (hz : zs z) (ct la : Int32) (up dp : Nat → Int32) (sz : Nat) : mu_Met l yX1_height cX1_height 4 (some .int) rmX1_height D (tc_mW A d (zI (n : Int)) bs ct la up dp) (tc_mT d) sz [.ref (A 0), .int (zI (z))] (mu_Q tc_M4 D (tc_mT d) (fun u => tc_mW A d (zI (n : Int)) bs u.1 u.2.1 u.2.2.1 u.2.2.2) (va_A (tc_mW A d (zI (n : Int)) bs ct la up dp) sz) (fun r _ => tc_S n b (tc_Rheight n b) (zI z) r)) := by
  refine mu_of (by decide) (Nat.le_of_ble_eq_true rfl) ?_
  intro p e s m below meth c ls C hl
  generalize va_A (tc_mW A d (zI (n : Int)) bs ct la up dp) sz = AA at C ⊢
  obtain ⟨hx, hb, hr, hml, hown, hts, hlocks, hP, hK, hD, hA, hS⟩ := C
  have hown : s.vm.findClass RX1 = some m.cls := hown
  have hl : lv_has ls 4 [(0, .ref (A 0)), (1, .int (zI (z)))] := hl
  have cn := tc_cnt_le b n
  refine lv_aload_n hx hb dX1_height_0 rfl (lv_at hl 0 rfl) ?_
  refine lv_iload_n hx hb dX1_height_1 rfl (lv_at hl 1 rfl) ?_
  refine mu_call (n := 1) (wr := []) hx hb hml hown hts (kM_node l D A d hn hok hbs z hz _ _ _ _ s.heap.size) (lw_V q215 q217 qs12 q17 q218) (by decide +kernel) ⟨Nat.le_of_ble_eq_true rfl, Nat.le_of_ble_eq_true rfl⟩ ⟨rfl, rfl⟩ hK hP hD hS hA [0, 1, 2, 3] [] rfl rfl rfl (by decide) (by decide) (by decide) rfl rfl rfl hl rfl (Nat.le_of_ble_eq_true rfl) dX1_height_2 ⟨Nat.le_of_ble_eq_true rfl, Nat.le_of_ble_eq_true rfl⟩ (fun rb u H locs hU hP hD hS => ?_)
  obtain ⟨ct1, la1, up1, dp1⟩ := u
  have hN : tc_bit (tc_nd n b (zI (z))) rb := hU.1
  have hU : tc_mQ n b ct1 la1 up1 dp1 := hU.2
  obtain ⟨rfl, ⟨z1, rfl, hz1⟩, hT1⟩ := hU
  have zb1 := tc_tp_bd hz1
  have hP : va_P D tc_Cl (tc_mW A d (zI (n : Int)) (bs) (zI (tc_cnt b (n) : Int)) (zI z1) (up1) (dp1)) H := hP
  have hD : va_D AA (tc_mW A d (zI (n : Int)) (bs) (zI (tc_cnt b (n) : Int)) (zI z1) (up1) (dp1)) := hD
  refine t_if_ne (tgt := 10) hx hb dX1_height_5 (by decide) hN (fun hc => ?_) (fun hc => ?_)
  · obtain ⟨p0, hp01, hp02, hp00⟩ := tc_nd_ob hn hz hc
    subst hp00
    have hNp0 : tc_isN n b p0 (zI (tc_cnt b p0 : Int)) := ⟨hp01, hp02, rfl⟩
    have cp0 := tc_cnt_le b p0
    obtain ⟨⟨xp0, hxp01, hxp02⟩, hdp0⟩ := hT1 p0 hp01 hp02
    have xbp0 := tc_tp_bd hxp02
    have lp1 := tc_lev_le b p0
    have lp2 := hok p0 (by omega)
    have loop : ∀ (f : Nat) (q : Nat) (x : Int), n + 1 ≤ q + f → q ≤ n → (0 ≤ x ∧ x ≤ 64) → (∀ i, i < q → b i = true → tc_anc b p0 i → tc_lev b i - tc_lev b p0 ≤ x) → (x = 0 ∨ ∃ i, i < q ∧ b i = true ∧ tc_anc b p0 i ∧ x = tc_lev b i - tc_lev b p0) → ∀ (ls : Array Slot), lv_has ls 4 [(0, .ref (A 0)), (1, .int (zI ((tc_cnt b p0 : Int)))), (2, .int (zI (x))), (3, .int (zI ((tc_cnt b q : Int))))] → mu_G p l e s m below meth c yX1_height cX1_height 4 (some .int) rmX1_height [.ref (A 0), .int (zI ((tc_cnt b p0 : Int)))] (mu_Q tc_M4 D (tc_mT d) (fun u => tc_mW A d (zI (n : Int)) bs u.1 u.2.1 u.2.2.1 u.2.2.2) AA (fun r _ => tc_S n b (tc_Rheight n b) (zI ((tc_cnt b p0 : Int))) r)) AA H locs (F0 m 14 ls []) := by
      intro f
      induction f with
      | zero => intro q x h1 h2 h3 h4 h5; exact absurd h1 (by omega)
      | succ f ih =>
        intro q x h1 h2 h3 h4 h5 ls hl
        obtain ⟨hx0, hx9⟩ := h3
        have cq := tc_cnt_le b q
        have cq2 := tc_cnt_mono (b := b) h2
        refine lv_iload_n hx hb dX1_height_14 rfl (lv_at hl 3 rfl) ?_
        refine lv_aload_n hx hb dX1_height_15 rfl (lv_at hl 0 rfl) ?_
        refine va_get (D := D) (ci := 1) (v := .int (zI ((tc_cnt b (n) : Int)))) (C := RX1) (T := TX1) (N := 6) hx hb hts in_X1 hown hK hP 0 rfl rfl 2 (by decide) (hts _ q168) (fun _ h9 => h9) rfl dX1_height_16 ?_
        refine z_icmp_ge (tgt := 72) hx hb dX1_height_19 (by decide) (⟨by omega, by omega⟩) (⟨by omega, by omega⟩) (fun hc2 => ?_) (fun hc2 => ?_)
        · refine lv_iload_n hx hb dX1_height_72 rfl (lv_at hl 2 rfl) ?_
          refine mu_ret (u := (zI (tc_cnt b n : Int), zI z1, up1, dp1)) hx hb hr hlocks hP hK hD hS (Or.inr ⟨p0, x, hNp0, ⟨?_, fun i a c e => h4 i (by rcases Nat.lt_or_ge i q with u | u; exact u; exact absurd (tc_flat (b := b) (q := q) (n := n) (by omega) i u a) (by rw [c]; decide)) c e⟩, rfl⟩) dX1_height_73
          rcases h5 with a | ⟨i, a, c, e, g⟩
          · exact ⟨p0, hp01, hp02, tc_anc_refl b p0, by omega⟩
          · exact ⟨i, by omega, c, e, g⟩
        · obtain ⟨r, hr1, hr2, hr3, hr4, hr5⟩ := tc_nxt (b := b) (n := n) (q := q) h2 (by omega)
          have cr := tc_cnt_le b r
          have lr1 := tc_lev_le b r
          have lr2 := hok r (by omega)
          have hdr := (hT1 r hr2 hr3).2
          rw [hr4] at hdr
          have k65 : ∀ y : Int, (0 ≤ y ∧ y ≤ 64) → x ≤ y → (tc_anc b p0 r → tc_lev b r - tc_lev b p0 ≤ y) → (y = x ∨ (tc_anc b p0 r ∧ y = tc_lev b r - tc_lev b p0)) → mu_G p l e s m below meth c yX1_height cX1_height 4 (some .int) rmX1_height [.ref (A 0), .int (zI ((tc_cnt b p0 : Int)))] (mu_Q tc_M4 D (tc_mT d) (fun u => tc_mW A d (zI (n : Int)) bs u.1 u.2.1 u.2.2.1 u.2.2.2) AA (fun r _ => tc_S n b (tc_Rheight n b) (zI ((tc_cnt b p0 : Int))) r)) AA H locs (F0 m 65 ls [.int (zI (y))]) := by
            intro y hy1 hy2 hy3 hy4
            refine lv_istore_n (lv' := [(2, .int (zI (y))), (0, .ref (A 0)), (1, .int (zI ((tc_cnt b p0 : Int)))), (3, .int (zI ((tc_cnt b q : Int))))]) hx hb dX1_height_65 rfl hl (by decide) rfl (fun ls hl => ?_)
            refine lv_iinc (v := zI ((tc_cnt b (r + 1) : Int))) (lv' := [(3, .int (zI ((tc_cnt b (r + 1) : Int)))), (2, .int (zI (y))), (0, .ref (A 0)), (1, .int (zI ((tc_cnt b p0 : Int))))]) hx hb dX1_height_66 hl (k := 3) rfl (zI_inc (by rw [tc_cnt_t hr3]; omega)) (by decide) rfl (fun ls hl => ?_)
            refine lv_goto (tgt := 14) hx hb dX1_height_69 (by decide) ?_
            refine ih (r + 1) y (by omega) (by omega) hy1 (fun i a c e => ?_) ?_ ls (lv_sub hl [2, 3, 1, 0] rfl)
            · rcases Nat.lt_or_ge i q with u | u
              · have := h4 i u c e; omega
              · by_cases ei : i = r
                · rw [ei]; rw [ei] at e; exact hy3 e
                · exact absurd (hr5 i u (by omega)) (by rw [c]; decide)
            · rcases hy4 with a | ⟨a, c⟩
              · rcases h5 with g | ⟨i, g1, g2, g3, g4⟩
                · exact Or.inl (by omega)
                · exact Or.inr ⟨i, by omega, g2, g3, by omega⟩
              · exact Or.inr ⟨r, by omega, hr3, a, c⟩
          refine lv_aload_n hx hb dX1_height_22 rfl (lv_at hl 0 rfl) ?_
          refine lv_iload_n hx hb dX1_height_23 rfl (lv_at hl 3 rfl) ?_
          refine z_set (y := (tc_cnt b r : Int)) (by rw [hr4]) ?_
          refine lv_iload_n hx hb dX1_height_24 rfl (lv_at hl 1 rfl) ?_
          refine ro_call (n := 2) hx hb hml hown hts (kM_under l D A d hn hok hT1 r p0 hr2 hr3 hp01 hp02) (lw_V q227 q229 qs13 q17 q230) (by decide +kernel) ⟨Nat.le_of_ble_eq_true rfl, Nat.le_of_ble_eq_true rfl⟩ ⟨rfl, rfl⟩ hK hP rfl rfl rfl hl rfl (Nat.le_of_ble_eq_true rfl) dX1_height_25 ⟨Nat.le_of_ble_eq_true rfl, Nat.le_of_ble_eq_true rfl⟩ (fun r25 hB => ?_)
          refine t_if_eq (tgt := 64) hx hb dX1_height_28 (by decide) hB (fun hc3 => ?_) (fun hc3 => ?_)
          · refine lv_iload_n hx hb dX1_height_64 rfl (lv_at hl 2 rfl) ?_
            exact k65 x ⟨hx0, hx9⟩ (by omega) (fun q => absurd q hc3) (Or.inl rfl)
          · refine lv_aload_n hx hb dX1_height_31 rfl (lv_at hl 0 rfl) ?_
            refine va_get (D := D) (ci := 1) (v := .ref (A 3)) (C := RX1) (T := TX1) (N := 6) hx hb hts in_X1 hown hK hP 0 rfl rfl 5 (by decide) (hts _ q171) (fun _ h9 => h9) rfl dX1_height_32 ?_
            refine lv_iload_n hx hb dX1_height_35 rfl (lv_at hl 3 rfl) ?_
            refine z_iald hx hb hK hP 3 2 rfl rfl (k := tc_cnt b q) (by omega) (by decide) (v := (zI (tc_lev b r))) (hdr) dX1_height_36 ?_
            refine lv_aload_n hx hb dX1_height_37 rfl (lv_at hl 0 rfl) ?_
            refine va_get (D := D) (ci := 1) (v := .ref (A 3)) (C := RX1) (T := TX1) (N := 6) hx hb hts in_X1 hown hK hP 0 rfl rfl 5 (by decide) (hts _ q171) (fun _ h9 => h9) rfl dX1_height_38 ?_
            refine lv_iload_n hx hb dX1_height_41 rfl (lv_at hl 1 rfl) ?_
            refine z_iald hx hb hK hP 3 2 rfl rfl (k := tc_cnt b p0) (by omega) (by decide) (v := (zI (tc_lev b p0))) (hdp0) dX1_height_42 ?_
            refine z_isub hx hb dX1_height_43 ?_
            refine lv_iload_n hx hb dX1_height_44 rfl (lv_at hl 2 rfl) ?_
            refine z_icmp_le (tgt := 64) hx hb dX1_height_45 (by decide) (⟨by omega, by omega⟩) (⟨by omega, by omega⟩) (fun hc4 => ?_) (fun hc4 => ?_)
            · refine lv_iload_n hx hb dX1_height_64 rfl (lv_at hl 2 rfl) ?_
              exact k65 x ⟨hx0, hx9⟩ (by omega) (fun _ => hc4) (Or.inl rfl)
            · refine lv_aload_n hx hb dX1_height_48 rfl (lv_at hl 0 rfl) ?_
              refine va_get (D := D) (ci := 1) (v := .ref (A 3)) (C := RX1) (T := TX1) (N := 6) hx hb hts in_X1 hown hK hP 0 rfl rfl 5 (by decide) (hts _ q171) (fun _ h9 => h9) rfl dX1_height_49 ?_
              refine lv_iload_n hx hb dX1_height_52 rfl (lv_at hl 3 rfl) ?_
              refine z_iald hx hb hK hP 3 2 rfl rfl (k := tc_cnt b q) (by omega) (by decide) (v := (zI (tc_lev b r))) (hdr) dX1_height_53 ?_
              refine lv_aload_n hx hb dX1_height_54 rfl (lv_at hl 0 rfl) ?_
              refine va_get (D := D) (ci := 1) (v := .ref (A 3)) (C := RX1) (T := TX1) (N := 6) hx hb hts in_X1 hown hK hP 0 rfl rfl 5 (by decide) (hts _ q171) (fun _ h9 => h9) rfl dX1_height_55 ?_
              refine lv_iload_n hx hb dX1_height_58 rfl (lv_at hl 1 rfl) ?_
              refine z_iald hx hb hK hP 3 2 rfl rfl (k := tc_cnt b p0) (by omega) (by decide) (v := (zI (tc_lev b p0))) (hdp0) dX1_height_59 ?_
              refine z_isub hx hb dX1_height_60 ?_
              refine lv_goto (tgt := 65) hx hb dX1_height_61 (by decide) ?_
              exact k65 _ ⟨by omega, by omega⟩ (by omega) (fun _ => by omega) (Or.inr ⟨hc3, rfl⟩)
    refine lv_iconst (v := zI 0) hx hb dX1_height_10 rfl ?_
    refine lv_istore_n (lv' := [(2, .int (zI (0))), (0, .ref (A 0)), (1, .int (zI ((tc_cnt b p0 : Int))))]) hx hb dX1_height_11 rfl hl (by decide) rfl (fun ls hl => ?_)
    refine lv_iconst (v := zI 0) hx hb dX1_height_12 rfl ?_
    refine z_set (y := (tc_cnt b 0 : Int)) (rfl) ?_
    refine lv_istore_n (lv' := [(3, .int (zI ((tc_cnt b 0 : Int)))), (2, .int (zI (0))), (0, .ref (A 0)), (1, .int (zI ((tc_cnt b p0 : Int))))]) hx hb dX1_height_13 rfl hl (by decide) rfl (fun ls hl => ?_)
    exact loop (n + 1) 0 0 (by omega) (by omega) ⟨by omega, by omega⟩ (fun i a => absurd a (Nat.not_lt_zero i)) (Or.inl rfl) ls (lv_sub hl [2, 3, 1, 0] rfl)
  · refine lv_iconst (v := zI (-1)) hx hb dX1_height_8 rfl ?_
    exact mu_ret (u := (zI (tc_cnt b (n) : Int), zI z1, up1, dp1)) hx hb hr hlocks hP hK hD hS (Or.inl ⟨hc, rfl⟩) dX1_height_9
abbrev rmX1_leavesBefore : Room := { frames := 2, cells := 0, slots := 0, locals := 42 }
set_option maxHeartbeats 4000000 in
set_option maxRecDepth 100000 in
theorem kM_leavesBefore (l : Launch) (D : va_G) (A : Nat → Nat) (d : Nat → ClassId) {n : Nat} {b : Nat → Bool} {bs : Nat → Int32} (hn : n ≤ 64) (hok : tc_ok n b) (hbs : tc_bs n b bs) (z : Int) (hz : zs z) (ct la : Int32) (up dp : Nat → Int32) (sz : Nat) : mu_Met l yX1_leavesBefore cX1_leavesBefore 4 (some .int) rmX1_leavesBefore D (tc_mW A d (zI (n : Int)) bs ct la up dp) (tc_mT d) sz [.ref (A 0), .int (zI (z))] (mu_Q tc_M4 D (tc_mT d) (fun u => tc_mW A d (zI (n : Int)) bs u.1 u.2.1 u.2.2.1 u.2.2.2) (va_A (tc_mW A d (zI (n : Int)) bs ct la up dp) sz) (fun r _ => tc_S n b (tc_Rleaves b) (zI z) r)) := by
  refine mu_of (by decide) (Nat.le_of_ble_eq_true rfl) ?_
  intro p e s m below meth c ls C hl
  generalize va_A (tc_mW A d (zI (n : Int)) bs ct la up dp) sz = AA at C ⊢
  obtain ⟨hx, hb, hr, hml, hown, hts, hlocks, hP, hK, hD, hA, hS⟩ := C
  have hown : s.vm.findClass RX1 = some m.cls := hown
  have hl : lv_has ls 4 [(0, .ref (A 0)), (1, .int (zI (z)))] := hl
  have cn := tc_cnt_le b n
  refine lv_aload_n hx hb dX1_leavesBefore_0 rfl (lv_at hl 0 rfl) ?_
  refine lv_iload_n hx hb dX1_leavesBefore_1 rfl (lv_at hl 1 rfl) ?_
  refine mu_call (n := 1) (wr := []) hx hb hml hown hts (kM_node l D A d hn hok hbs z hz _ _ _ _ s.heap.size) (lw_V q215 q217 qs12 q17 q218) (by decide +kernel) ⟨Nat.le_of_ble_eq_true rfl, Nat.le_of_ble_eq_true rfl⟩ ⟨rfl, rfl⟩ hK hP hD hS hA [0, 1, 2, 3] [] rfl rfl rfl (by decide) (by decide) (by decide) rfl rfl rfl hl rfl (Nat.le_of_ble_eq_true rfl) dX1_leavesBefore_2 ⟨Nat.le_of_ble_eq_true rfl, Nat.le_of_ble_eq_true rfl⟩ (fun rb u H locs hU hP hD hS => ?_)
  obtain ⟨ct1, la1, up1, dp1⟩ := u
  have hN : tc_bit (tc_nd n b (zI (z))) rb := hU.1
  have hU : tc_mQ n b ct1 la1 up1 dp1 := hU.2
  obtain ⟨rfl, ⟨z1, rfl, hz1⟩, hT1⟩ := hU
  have zb1 := tc_tp_bd hz1
  have hP : va_P D tc_Cl (tc_mW A d (zI (n : Int)) (bs) (zI (tc_cnt b (n) : Int)) (zI z1) (up1) (dp1)) H := hP
  have hD : va_D AA (tc_mW A d (zI (n : Int)) (bs) (zI (tc_cnt b (n) : Int)) (zI z1) (up1) (dp1)) := hD
  refine t_if_ne (tgt := 10) hx hb dX1_leavesBefore_5 (by decide) hN (fun hc => ?_) (fun hc => ?_)
  · obtain ⟨p0, hp01, hp02, hp00⟩ := tc_nd_ob hn hz hc
    subst hp00
    have hNp0 : tc_isN n b p0 (zI (tc_cnt b p0 : Int)) := ⟨hp01, hp02, rfl⟩
    have cp0 := tc_cnt_le b p0
    obtain ⟨⟨xp0, hxp01, hxp02⟩, hdp0⟩ := hT1 p0 hp01 hp02
    have xbp0 := tc_tp_bd hxp02
    have loop : ∀ (f : Nat) (q : Nat), p0 + 1 ≤ q + f → q ≤ p0 → ∀ (ls : Array Slot), lv_has ls 4 [(0, .ref (A 0)), (1, .int (zI ((tc_cnt b p0 : Int)))), (2, .int (zI ((tc_num (tc_lf b) q : Int)))), (3, .int (zI ((tc_cnt b q : Int))))] → mu_G p l e s m below meth c yX1_leavesBefore cX1_leavesBefore 4 (some .int) rmX1_leavesBefore [.ref (A 0), .int (zI ((tc_cnt b p0 : Int)))] (mu_Q tc_M4 D (tc_mT d) (fun u => tc_mW A d (zI (n : Int)) bs u.1 u.2.1 u.2.2.1 u.2.2.2) AA (fun r _ => tc_S n b (tc_Rleaves b) (zI ((tc_cnt b p0 : Int))) r)) AA H locs (F0 m 14 ls []) := by
      intro f
      induction f with
      | zero => intro q h1 h2; exact absurd h1 (by omega)
      | succ f ih =>
        intro q h1 h2 ls hl
        have cq := tc_cnt_le b q
        refine lv_iload_n hx hb dX1_leavesBefore_14 rfl (lv_at hl 3 rfl) ?_
        refine lv_iload_n hx hb dX1_leavesBefore_15 rfl (lv_at hl 1 rfl) ?_
        refine z_icmp_ge (tgt := 41) hx hb dX1_leavesBefore_16 (by decide) (⟨by omega, by omega⟩) (⟨by omega, by omega⟩) (fun hc2 => ?_) (fun hc2 => ?_)
        · have en : tc_num (tc_lf b) p0 = tc_num (tc_lf b) q := tc_num_flat h2 (fun k a c w => by have e := tc_flat (b := b) (q := q) (n := p0) (by omega) k a c; rw [w.1] at e; cases e)
          refine lv_iload_n hx hb dX1_leavesBefore_41 rfl (lv_at hl 2 rfl) ?_
          exact mu_ret (u := (zI (tc_cnt b (n) : Int), zI z1, up1, dp1)) hx hb hr hlocks hP hK hD hS (Or.inr ⟨p0, _, hNp0, rfl, by rw [en]⟩) dX1_leavesBefore_42
        · obtain ⟨r, hr1, hr2, hr3, hr4, hr5⟩ := tc_nxt (b := b) (n := p0) (q := q) h2 (by omega)
          have cr := tc_cnt_le b r
          have en : tc_num (tc_lf b) r = tc_num (tc_lf b) q := tc_num_flat hr1 (fun k a c w => by have e := hr5 k a c; rw [w.1] at e; cases e)
          have hlf := tc_lf_iff hr3 hr2 hp01
          have cnr := tc_num_le (tc_kid b r) n
          refine lv_aload_n hx hb dX1_leavesBefore_19 rfl (lv_at hl 0 rfl) ?_
          refine lv_iload_n hx hb dX1_leavesBefore_20 rfl (lv_at hl 3 rfl) ?_
          refine z_set (y := (tc_cnt b r : Int)) (by rw [hr4]) ?_
          refine ro_calle (n := 1) hx hb hml hown hts (kM_childrenOf l D A d hn hok hT1 r (by omega) hr3) (lw_V q235 q237 qs14 q17 q238) (by decide +kernel) ⟨Nat.le_of_ble_eq_true rfl, Nat.le_of_ble_eq_true rfl⟩ ⟨rfl, rfl⟩ hK hP rfl rfl rfl hl rfl (Nat.le_of_ble_eq_true rfl) dX1_leavesBefore_21 ⟨Nat.le_of_ble_eq_true rfl, Nat.le_of_ble_eq_true rfl⟩ ?_
          suffices kM : mu_G p l e s m below meth c yX1_leavesBefore cX1_leavesBefore 4 (some .int) rmX1_leavesBefore [.ref (A 0), .int (zI ((tc_cnt b p0 : Int)))] (mu_Q tc_M4 D (tc_mT d) (fun u => tc_mW A d (zI (n : Int)) bs u.1 u.2.1 u.2.2.1 u.2.2.2) AA (fun r _ => tc_S n b (tc_Rleaves b) (zI ((tc_cnt b p0 : Int))) r)) AA H locs (F0 m 34 ls [.int (zI ((tc_num (tc_lf b) (r + 1) : Int)))]) by
            refine z_if_ne (tgt := 33) hx hb dX1_leavesBefore_24 (by decide) (⟨by omega, by omega⟩) (fun hc3 => ?_) (fun hc3 => ?_)
            · refine lv_iload_n hx hb dX1_leavesBefore_33 rfl (lv_at hl 2 rfl) ?_
              exact z_set (by rw [tc_num_f (fun w => hc3 (by have := hlf.mp w; omega)), en]) kM
            · refine lv_iload_n hx hb dX1_leavesBefore_27 rfl (lv_at hl 2 rfl) ?_
              refine lv_iconst (v := zI 1) hx hb dX1_leavesBefore_28 rfl ?_
              refine z_iadd hx hb dX1_leavesBefore_29 ?_
              refine lv_goto (tgt := 34) hx hb dX1_leavesBefore_30 (by decide) ?_
              exact z_set (by rw [tc_num_t (P := tc_lf b) (hlf.mpr (by omega)), en]; omega) kM
          refine lv_istore_n (lv' := [(2, .int (zI ((tc_num (tc_lf b) (r + 1) : Int)))), (0, .ref (A 0)), (1, .int (zI ((tc_cnt b p0 : Int)))), (3, .int (zI ((tc_cnt b q : Int))))]) hx hb dX1_leavesBefore_34 rfl hl (by decide) rfl (fun ls hl => ?_)
          refine lv_iinc (v := zI ((tc_cnt b (r + 1) : Int))) (lv' := [(3, .int (zI ((tc_cnt b (r + 1) : Int)))), (2, .int (zI ((tc_num (tc_lf b) (r + 1) : Int)))), (0, .ref (A 0)), (1, .int (zI ((tc_cnt b p0 : Int))))]) hx hb dX1_leavesBefore_35 hl (k := 3) rfl (zI_inc (by rw [tc_cnt_t hr3]; omega)) (by decide) rfl (fun ls hl => ?_)
          refine lv_goto (tgt := 14) hx hb dX1_leavesBefore_38 (by decide) ?_
          exact ih (r + 1) (by omega) (by omega) ls (lv_sub hl [2, 3, 1, 0] rfl)
    refine lv_iconst (v := zI 0) hx hb dX1_leavesBefore_10 rfl ?_
    refine z_set (y := (tc_num (tc_lf b) 0 : Int)) (rfl) ?_
    refine lv_istore_n (lv' := [(2, .int (zI ((tc_num (tc_lf b) 0 : Int)))), (0, .ref (A 0)), (1, .int (zI ((tc_cnt b p0 : Int))))]) hx hb dX1_leavesBefore_11 rfl hl (by decide) rfl (fun ls hl => ?_)
    refine lv_iconst (v := zI 0) hx hb dX1_leavesBefore_12 rfl ?_
    refine z_set (y := (tc_cnt b 0 : Int)) (rfl) ?_
    refine lv_istore_n (lv' := [(3, .int (zI ((tc_cnt b 0 : Int)))), (2, .int (zI ((tc_num (tc_lf b) 0 : Int)))), (0, .ref (A 0)), (1, .int (zI ((tc_cnt b p0 : Int))))]) hx hb dX1_leavesBefore_13 rfl hl (by decide) rfl (fun ls hl => ?_)
    exact loop (p0 + 1) 0 (by omega) (by omega) ls (lv_sub hl [2, 3, 1, 0] rfl)
  · refine lv_iconst (v := zI (-1)) hx hb dX1_leavesBefore_8 rfl ?_
    exact mu_ret (u := (zI (tc_cnt b (n) : Int), zI z1, up1, dp1)) hx hb hr hlocks hP hK hD hS (Or.inl ⟨hc, rfl⟩) dX1_leavesBefore_9
abbrev rmX1_child : Room := { frames := 2, cells := 0, slots := 0, locals := 42 }
set_option maxHeartbeats 4000000 in
set_option maxRecDepth 100000 in
theorem kM_child (l : Launch) (D : va_G) (A : Nat → Nat) (d : Nat → ClassId) {n : Nat} {b : Nat → Bool} {bs : Nat → Int32} (hn : n ≤ 64) (hok : tc_ok n b) (hbs : tc_bs n b bs) (z : Int) (hz : zs z) (g : Int) (hg : zs g) (ct la : Int32) (up dp : Nat → Int32) (sz : Nat) : mu_Met l yX1_child cX1_child 6 (some .int) rmX1_child D (tc_mW A d (zI (n : Int)) bs ct la up dp) (tc_mT d) sz [.ref (A 0), .int (zI (z)), .int (zI (g))] (mu_Q tc_M4 D (tc_mT d) (fun u => tc_mW A d (zI (n : Int)) bs u.1 u.2.1 u.2.2.1 u.2.2.2) (va_A (tc_mW A d (zI (n : Int)) bs ct la up dp) sz) (fun r _ => tc_S n b (tc_Rchild n b (zI g)) (zI z) r)) := by
  refine mu_of (by decide) (Nat.le_of_ble_eq_true rfl) ?_
  intro p e s m below meth c ls C hl
  generalize va_A (tc_mW A d (zI (n : Int)) bs ct la up dp) sz = AA at C ⊢
  obtain ⟨hx, hb, hr, hml, hown, hts, hlocks, hP, hK, hD, hA, hS⟩ := C
  have hown : s.vm.findClass RX1 = some m.cls := hown
  have hl : lv_has ls 6 [(0, .ref (A 0)), (1, .int (zI (z))), (2, .int (zI (g)))] := hl
  have cn := tc_cnt_le b n
  refine lv_iconst (v := zI 0) hx hb dX1_child_0 rfl ?_
  refine lv_istore_n (lv' := [(3, .int (zI (0))), (0, .ref (A 0)), (1, .int (zI (z))), (2, .int (zI (g)))]) hx hb dX1_child_1 rfl hl (by decide) rfl (fun ls hl => ?_)
  refine lv_aload_n hx hb dX1_child_2 rfl (lv_at hl 1 rfl) ?_
  refine lv_iload_n hx hb dX1_child_3 rfl (lv_at hl 2 rfl) ?_
  refine mu_call (n := 1) (wr := []) hx hb hml hown hts (kM_node l D A d hn hok hbs z hz _ _ _ _ s.heap.size) (lw_V q215 q217 qs12 q17 q218) (by decide +kernel) ⟨Nat.le_of_ble_eq_true rfl, Nat.le_of_ble_eq_true rfl⟩ ⟨rfl, rfl⟩ hK hP hD hS hA [0, 1, 2, 3] [] rfl rfl rfl (by decide) (by decide) (by decide) rfl rfl rfl hl rfl (Nat.le_of_ble_eq_true rfl) dX1_child_4 ⟨Nat.le_of_ble_eq_true rfl, Nat.le_of_ble_eq_true rfl⟩ (fun rb u H locs hU hP hD hS => ?_)
  obtain ⟨ct1, la1, up1, dp1⟩ := u
  have hN : tc_bit (tc_nd n b (zI (z))) rb := hU.1
  have hU : tc_mQ n b ct1 la1 up1 dp1 := hU.2
  obtain ⟨rfl, ⟨z1, rfl, hz1⟩, hT1⟩ := hU
  have zb1 := tc_tp_bd hz1
  have hP : va_P D tc_Cl (tc_mW A d (zI (n : Int)) (bs) (zI (tc_cnt b (n) : Int)) (zI z1) (up1) (dp1)) H := hP
  have hD : va_D AA (tc_mW A d (zI (n : Int)) (bs) (zI (tc_cnt b (n) : Int)) (zI z1) (up1) (dp1)) := hD
  by_cases hnd : tc_nd n b (zI z)
  · have hc := hnd
    obtain ⟨p0, hp01, hp02, hp00⟩ := tc_nd_ob hn hz hc
    subst hp00
    have hNp0 : tc_isN n b p0 (zI (tc_cnt b p0 : Int)) := ⟨hp01, hp02, rfl⟩
    have cp0 := tc_cnt_le b p0
    obtain ⟨⟨xp0, hxp01, hxp02⟩, hdp0⟩ := hT1 p0 hp01 hp02
    have xbp0 := tc_tp_bd hxp02
    have loop : ∀ (f : Nat) (q : Nat), n + 1 ≤ q + f → q ≤ n → (∀ i, i < q → tc_kid b p0 i → zI g ≠ zI (tc_num (tc_kid b p0) i : Int)) → ∀ (ls : Array Slot), lv_has ls 6 [(0, .ref (A 0)), (1, .int (zI ((tc_cnt b p0 : Int)))), (2, .int (zI (g))), (3, .int (zI ((tc_num (tc_kid b p0) q : Int)))), (4, .int (rb)), (5, .int (zI ((tc_cnt b q : Int))))] → mu_G p l e s m below meth c yX1_child cX1_child 6 (some .int) rmX1_child [.ref (A 0), .int (zI ((tc_cnt b p0 : Int))), .int (zI (g))] (mu_Q tc_M4 D (tc_mT d) (fun u => tc_mW A d (zI (n : Int)) bs u.1 u.2.1 u.2.2.1 u.2.2.2) AA (fun r _ => tc_S n b (tc_Rchild n b (zI g)) (zI ((tc_cnt b p0 : Int))) r)) AA H locs (F0 m 12 ls []) := by
      intro f
      induction f with
      | zero => intro q h1 h2 h3; exact absurd h1 (by omega)
      | succ f ih =>
        intro q h1 h2 h3 ls hl
        have cq := tc_cnt_le b q
        have nq := tc_num_le (tc_kid b p0) q
        refine lv_iload hx hb dX1_child_12 (lv_at hl 5 rfl) ?_
        refine lv_aload_n hx hb dX1_child_14 rfl (lv_at hl 0 rfl) ?_
        refine va_get (D := D) (ci := 1) (v := .int (zI ((tc_cnt b (n) : Int)))) (C := RX1) (T := TX1) (N := 6) hx hb hts in_X1 hown hK hP 0 rfl rfl 2 (by decide) (hts _ q168) (fun _ h9 => h9) rfl dX1_child_15 ?_
        refine z_icmp_ge (tgt := 54) hx hb dX1_child_18 (by decide) (⟨by omega, by omega⟩) (⟨by omega, by omega⟩) (fun hc2 => ?_) (fun hc2 => ?_)
        · refine lv_iconst (v := zI (-1)) hx hb dX1_child_54 rfl ?_
          exact mu_ret (u := (zI (tc_cnt b (n) : Int), zI z1, up1, dp1)) hx hb hr hlocks hP hK hD hS (Or.inr ⟨p0, -1, hNp0, Or.inr ⟨fun i a c => h3 i (by rcases Nat.lt_or_ge i q with u | u; exact u; exact absurd (tc_flat (b := b) (q := q) (n := n) (by omega) i u a) (by rw [c.1]; decide)) c, rfl⟩, rfl⟩) dX1_child_55
        · refine lv_iload hx hb dX1_child_21 (lv_at hl 4 rfl) ?_
          refine t_if_eq (tgt := 54) hx hb dX1_child_23 (by decide) hN (fun hc3 => ?_) (fun hc3 => ?_)
          · exact absurd ⟨p0, hNp0⟩ hc3
          · obtain ⟨r, hr1, hr2, hr3, hr4, hr5⟩ := tc_nxt (b := b) (n := n) (q := q) h2 (by omega)
            have cr := tc_cnt_le b r
            have en : tc_num (tc_kid b p0) r = tc_num (tc_kid b p0) q := tc_num_flat hr1 (fun k a c w => by have e := hr5 k a c; rw [w.1] at e; cases e)
            obtain ⟨⟨x, hx1, hx2⟩, _⟩ := hT1 r hr2 hr3
            rw [hr4] at hx1
            have xb := tc_tp_bd hx2
            have hlow : ∀ i, i < r → tc_kid b p0 i → zI g ≠ zI (tc_num (tc_kid b p0) i : Int) := fun i a c => h3 i (by rcases Nat.lt_or_ge i q with u | u; exact u; exact absurd (hr5 i u a) (by rw [c.1]; decide)) c
            refine lv_aload_n hx hb dX1_child_26 rfl (lv_at hl 0 rfl) ?_
            refine va_get (D := D) (ci := 1) (v := .ref (A 2)) (C := RX1) (T := TX1) (N := 6) hx hb hts in_X1 hown hK hP 0 rfl rfl 4 (by decide) (hts _ q170) (fun _ h9 => h9) rfl dX1_child_27 ?_
            refine lv_iload hx hb dX1_child_30 (lv_at hl 5 rfl) ?_
            refine z_iald hx hb hK hP 2 1 rfl rfl (k := tc_cnt b q) (by omega) (by decide) (v := (zI (x))) (hx1) dX1_child_32 ?_
            refine lv_iload_n hx hb dX1_child_33 rfl (lv_at hl 1 rfl) ?_
            refine z_icmp_ne (tgt := 48) hx hb dX1_child_34 (by decide) (⟨by omega, by omega⟩) (⟨by omega, by omega⟩) (fun hc4 => ?_) (fun hc4 => ?_)
            · have hnk : ¬ tc_kid b p0 r := fun w => hc4 (tc_par_tp hok (by omega) hx2 w.2)
              refine lv_iinc (v := zI ((tc_cnt b (r + 1) : Int))) (lv' := [(5, .int (zI ((tc_cnt b (r + 1) : Int)))), (0, .ref (A 0)), (1, .int (zI ((tc_cnt b p0 : Int)))), (2, .int (zI (g))), (3, .int (zI ((tc_num (tc_kid b p0) q : Int)))), (4, .int (rb))]) hx hb dX1_child_48 hl (k := 5) rfl (zI_inc (by rw [tc_cnt_t hr3]; omega)) (by decide) rfl (fun ls hl => ?_)
              refine lv_goto (tgt := 12) hx hb dX1_child_51 (by decide) ?_
              refine ih (r + 1) (by omega) (by omega) (fun i a c => ?_) ls (by rw [tc_num_f hnk, en]; exact (lv_sub hl [1, 2, 3, 4, 5, 0] rfl))
              by_cases ei : i = r
              · exact absurd (by rw [← ei]; exact c) hnk
              · exact hlow i (by omega) c
            · have hk : tc_kid b p0 r := ⟨hr3, tc_tp_par hp02 hx2 hc4⟩
              refine lv_iload_n hx hb dX1_child_37 rfl (lv_at hl 3 rfl) ?_
              refine lv_iload_n hx hb dX1_child_38 rfl (lv_at hl 2 rfl) ?_
              refine z_icmp_ne (tgt := 45) hx hb dX1_child_39 (by decide) (⟨by omega, by omega⟩) (hg) (fun hc5 => ?_) (fun hc5 => ?_)
              · refine lv_iinc (v := zI ((tc_num (tc_kid b p0) (r + 1) : Int))) (lv' := [(3, .int (zI ((tc_num (tc_kid b p0) (r + 1) : Int)))), (0, .ref (A 0)), (1, .int (zI ((tc_cnt b p0 : Int)))), (2, .int (zI (g))), (4, .int (rb)), (5, .int (zI ((tc_cnt b q : Int))))]) hx hb dX1_child_45 hl (k := 3) rfl (zI_inc (by rw [tc_num_t hk, en]; omega)) (by decide) rfl (fun ls hl => ?_)
                refine lv_iinc (v := zI ((tc_cnt b (r + 1) : Int))) (lv' := [(5, .int (zI ((tc_cnt b (r + 1) : Int)))), (3, .int (zI ((tc_num (tc_kid b p0) (r + 1) : Int)))), (0, .ref (A 0)), (1, .int (zI ((tc_cnt b p0 : Int)))), (2, .int (zI (g))), (4, .int (rb))]) hx hb dX1_child_48 hl (k := 5) rfl (zI_inc (by rw [tc_cnt_t hr3]; omega)) (by decide) rfl (fun ls hl => ?_)
                refine lv_goto (tgt := 12) hx hb dX1_child_51 (by decide) ?_
                refine ih (r + 1) (by omega) (by omega) (fun i a c => ?_) ls (lv_sub hl [2, 3, 4, 1, 5, 0] rfl)
                by_cases ei : i = r
                · rw [ei, en]; exact fun q => hc5 ((zI_eq hg ⟨by omega, by omega⟩).mp q).symm
                · exact hlow i (by omega) c
              · refine lv_iload hx hb dX1_child_42 (lv_at hl 5 rfl) ?_
                exact mu_ret (u := (zI (tc_cnt b (n) : Int), zI z1, up1, dp1)) hx hb hr hlocks hP hK hD hS (Or.inr ⟨p0, _, hNp0, Or.inl ⟨r, hr2, hk, by rw [en, hc5], by rw [hr4]⟩, rfl⟩) dX1_child_44
    refine lv_istore (lv' := [(4, .int (rb)), (3, .int (zI (0))), (0, .ref (A 0)), (1, .int (zI ((tc_cnt b p0 : Int)))), (2, .int (zI (g)))]) hx hb dX1_child_7 hl (by decide) rfl (fun ls hl => ?_)
    refine lv_iconst (v := zI 0) hx hb dX1_child_9 rfl ?_
    refine z_set (y := (tc_cnt b 0 : Int)) (rfl) ?_
    refine lv_istore (lv' := [(5, .int (zI ((tc_cnt b 0 : Int)))), (4, .int (rb)), (3, .int (zI (0))), (0, .ref (A 0)), (1, .int (zI ((tc_cnt b p0 : Int)))), (2, .int (zI (g)))]) hx hb dX1_child_10 hl (by decide) rfl (fun ls hl => ?_)
    exact loop (n + 1) 0 (by omega) (by omega) (fun i a => absurd a (Nat.not_lt_zero i)) ls (lv_sub hl [3, 4, 5, 2, 1, 0] rfl)
  · refine lv_istore (lv' := [(4, .int (rb)), (3, .int (zI (0))), (0, .ref (A 0)), (1, .int (zI (z))), (2, .int (zI (g)))]) hx hb dX1_child_7 hl (by decide) rfl (fun ls hl => ?_)
    refine lv_iconst (v := zI 0) hx hb dX1_child_9 rfl ?_
    refine lv_istore (lv' := [(5, .int (zI (0))), (4, .int (rb)), (3, .int (zI (0))), (0, .ref (A 0)), (1, .int (zI (z))), (2, .int (zI (g)))]) hx hb dX1_child_10 hl (by decide) rfl (fun ls hl => ?_)
    refine lv_iload hx hb dX1_child_12 (lv_at hl 0 rfl) ?_
    refine lv_aload_n hx hb dX1_child_14 rfl (lv_at hl 3 rfl) ?_
    refine va_get (D := D) (ci := 1) (v := .int (zI ((tc_cnt b (n) : Int)))) (C := RX1) (T := TX1) (N := 6) hx hb hts in_X1 hown hK hP 0 rfl rfl 2 (by decide) (hts _ q168) (fun _ h9 => h9) rfl dX1_child_15 ?_
    refine z_icmp_ge (tgt := 54) hx hb dX1_child_18 (by decide) (⟨by omega, by omega⟩) (⟨by omega, by omega⟩) (fun hc2 => ?_) (fun hc2 => ?_)
    · refine lv_iconst (v := zI (-1)) hx hb dX1_child_54 rfl ?_
      exact mu_ret (u := (zI (tc_cnt b (n) : Int), zI z1, up1, dp1)) hx hb hr hlocks hP hK hD hS (Or.inl ⟨hnd, rfl⟩) dX1_child_55
    · refine lv_iload hx hb dX1_child_21 (lv_at hl 1 rfl) ?_
      refine t_if_eq (tgt := 54) hx hb dX1_child_23 (by decide) hN (fun hc3 => ?_) (fun hc3 => ?_)
      · refine lv_iconst (v := zI (-1)) hx hb dX1_child_54 rfl ?_
        exact mu_ret (u := (zI (tc_cnt b (n) : Int), zI z1, up1, dp1)) hx hb hr hlocks hP hK hD hS (Or.inl ⟨hnd, rfl⟩) dX1_child_55
      · exact absurd hc3 hnd
abbrev rmX1_next : Room := { frames := 2, cells := 0, slots := 0, locals := 42 }
set_option maxHeartbeats 4000000 in
set_option maxRecDepth 100000 in
theorem kM_next (l : Launch) (D : va_G) (A : Nat → Nat) (d : Nat → ClassId) {n : Nat} {b : Nat → Bool} {bs : Nat → Int32} (hn : n ≤ 64) (hok : tc_ok n b) (hbs : tc_bs n b bs) (z : Int) (hz : zs z) (ct la : Int32) (up dp : Nat → Int32) (sz : Nat) : mu_Met l yX1_next cX1_next 4 (some .int) rmX1_next D (tc_mW A d (zI (n : Int)) bs ct la up dp) (tc_mT d) sz [.ref (A 0), .int (zI (z))] (mu_Q tc_M4 D (tc_mT d) (fun u => tc_mW A d (zI (n : Int)) bs u.1 u.2.1 u.2.2.1 u.2.2.2) (va_A (tc_mW A d (zI (n : Int)) bs ct la up dp) sz) (fun r _ => tc_S n b (tc_Rnext n b) (zI z) r)) := by
  refine mu_of (by decide) (Nat.le_of_ble_eq_true rfl) ?_
  intro p e s m below meth c ls C hl
  generalize va_A (tc_mW A d (zI (n : Int)) bs ct la up dp) sz = AA at C ⊢
  obtain ⟨hx, hb, hr, hml, hown, hts, hlocks, hP, hK, hD, hA, hS⟩ := C
  have hown : s.vm.findClass RX1 = some m.cls := hown
  have hl : lv_has ls 4 [(0, .ref (A 0)), (1, .int (zI (z)))] := hl
  have cn := tc_cnt_le b n
  refine lv_aload_n hx hb dX1_next_0 rfl (lv_at hl 0 rfl) ?_
  refine lv_iload_n hx hb dX1_next_1 rfl (lv_at hl 1 rfl) ?_
  refine mu_call (n := 1) (wr := []) hx hb hml hown hts (kM_node l D A d hn hok hbs z hz _ _ _ _ s.heap.size) (lw_V q215 q217 qs12 q17 q218) (by decide +kernel) ⟨Nat.le_of_ble_eq_true rfl, Nat.le_of_ble_eq_true rfl⟩ ⟨rfl, rfl⟩ hK hP hD hS hA [0, 1, 2, 3] [] rfl rfl rfl (by decide) (by decide) (by decide) rfl rfl rfl hl rfl (Nat.le_of_ble_eq_true rfl) dX1_next_2 ⟨Nat.le_of_ble_eq_true rfl, Nat.le_of_ble_eq_true rfl⟩ (fun rb u H locs hU hP hD hS => ?_)
  obtain ⟨ct1, la1, up1, dp1⟩ := u
  have hN : tc_bit (tc_nd n b (zI (z))) rb := hU.1
  have hU : tc_mQ n b ct1 la1 up1 dp1 := hU.2
  obtain ⟨rfl, ⟨z1, rfl, hz1⟩, hT1⟩ := hU
  have zb1 := tc_tp_bd hz1
  have hP : va_P D tc_Cl (tc_mW A d (zI (n : Int)) (bs) (zI (tc_cnt b (n) : Int)) (zI z1) (up1) (dp1)) H := hP
  have hD : va_D AA (tc_mW A d (zI (n : Int)) (bs) (zI (tc_cnt b (n) : Int)) (zI z1) (up1) (dp1)) := hD
  by_cases hnd : tc_nd n b (zI z)
  · have hc := hnd
    obtain ⟨p0, hp01, hp02, hp00⟩ := tc_nd_ob hn hz hc
    subst hp00
    have hNp0 : tc_isN n b p0 (zI (tc_cnt b p0 : Int)) := ⟨hp01, hp02, rfl⟩
    have cp0 := tc_cnt_le b p0
    obtain ⟨⟨xp0, hxp01, hxp02⟩, hdp0⟩ := hT1 p0 hp01 hp02
    have xbp0 := tc_tp_bd hxp02
    have loop : ∀ (f : Nat) (q : Nat), n + 1 ≤ q + f → q ≤ n → (∀ i, p0 < i → i < q → b i = true → ¬ tc_sib b p0 i) → ∀ (ls : Array Slot), lv_has ls 4 [(0, .ref (A 0)), (1, .int (zI ((tc_cnt b p0 : Int)))), (2, .int (rb)), (3, .int (zI ((tc_cnt b q : Int))))] → mu_G p l e s m below meth c yX1_next cX1_next 4 (some .int) rmX1_next [.ref (A 0), .int (zI ((tc_cnt b p0 : Int)))] (mu_Q tc_M4 D (tc_mT d) (fun u => tc_mW A d (zI (n : Int)) bs u.1 u.2.1 u.2.2.1 u.2.2.2) AA (fun r _ => tc_S n b (tc_Rnext n b) (zI ((tc_cnt b p0 : Int))) r)) AA H locs (F0 m 8 ls []) := by
      intro f
      induction f with
      | zero => intro q h1 h2 h3; exact absurd h1 (by omega)
      | succ f ih =>
        intro q h1 h2 h3 ls hl
        have cq := tc_cnt_le b q
        refine lv_iload_n hx hb dX1_next_8 rfl (lv_at hl 3 rfl) ?_
        refine lv_aload_n hx hb dX1_next_9 rfl (lv_at hl 0 rfl) ?_
        refine va_get (D := D) (ci := 1) (v := .int (zI ((tc_cnt b (n) : Int)))) (C := RX1) (T := TX1) (N := 6) hx hb hts in_X1 hown hK hP 0 rfl rfl 2 (by decide) (hts _ q168) (fun _ h9 => h9) rfl dX1_next_10 ?_
        refine z_icmp_ge (tgt := 48) hx hb dX1_next_13 (by decide) (⟨by omega, by omega⟩) (⟨by omega, by omega⟩) (fun hc2 => ?_) (fun hc2 => ?_)
        · refine lv_iconst (v := zI (-1)) hx hb dX1_next_48 rfl ?_
          exact mu_ret (u := (zI (tc_cnt b (n) : Int), zI z1, up1, dp1)) hx hb hr hlocks hP hK hD hS (Or.inr ⟨p0, -1, hNp0, Or.inr ⟨fun i a c e => h3 i a (by rcases Nat.lt_or_ge i q with u | u; exact u; exact absurd (tc_flat (b := b) (q := q) (n := n) (by omega) i u c) (by rw [e]; decide)) e, rfl⟩, rfl⟩) dX1_next_49
        · refine lv_iload_n hx hb dX1_next_16 rfl (lv_at hl 2 rfl) ?_
          refine t_if_eq (tgt := 48) hx hb dX1_next_17 (by decide) hN (fun hc3 => ?_) (fun hc3 => ?_)
          · exact absurd ⟨p0, hNp0⟩ hc3
          · obtain ⟨r, hr1, hr2, hr3, hr4, hr5⟩ := tc_nxt (b := b) (n := n) (q := q) h2 (by omega)
            have cr := tc_cnt_le b r
            have hlow : ∀ i, p0 < i → i < r → b i = true → ¬ tc_sib b p0 i := fun i a c e => h3 i a (by rcases Nat.lt_or_ge i q with u | u; exact u; exact absurd (hr5 i u c) (by rw [e]; decide)) e
            obtain ⟨⟨x, hx1, hx2⟩, _⟩ := hT1 r hr2 hr3
            rw [hr4] at hx1
            have xb := tc_tp_bd hx2
            have k42 : (p0 < r → ¬ tc_sib b p0 r) → mu_G p l e s m below meth c yX1_next cX1_next 4 (some .int) rmX1_next [.ref (A 0), .int (zI ((tc_cnt b p0 : Int)))] (mu_Q tc_M4 D (tc_mT d) (fun u => tc_mW A d (zI (n : Int)) bs u.1 u.2.1 u.2.2.1 u.2.2.2) AA (fun r _ => tc_S n b (tc_Rnext n b) (zI ((tc_cnt b p0 : Int))) r)) AA H locs (F0 m 42 ls []) := by
              intro hns
              refine lv_iinc (v := zI ((tc_cnt b (r + 1) : Int))) (lv' := [(3, .int (zI ((tc_cnt b (r + 1) : Int)))), (0, .ref (A 0)), (1, .int (zI ((tc_cnt b p0 : Int)))), (2, .int (rb))]) hx hb dX1_next_42 hl (k := 3) rfl (zI_inc (by rw [tc_cnt_t hr3]; omega)) (by decide) rfl (fun ls hl => ?_)
              refine lv_goto (tgt := 8) hx hb dX1_next_45 (by decide) ?_
              refine ih (r + 1) (by omega) (by omega) (fun i a c e => ?_) ls (lv_sub hl [1, 2, 3, 0] rfl)
              by_cases ei : i = r
              · rw [ei]; exact hns (by omega)
              · exact hlow i a (by omega) e
            refine lv_iload_n hx hb dX1_next_20 rfl (lv_at hl 3 rfl) ?_
            refine lv_iload_n hx hb dX1_next_21 rfl (lv_at hl 1 rfl) ?_
            refine z_icmp_le (tgt := 42) hx hb dX1_next_22 (by decide) (⟨by omega, by omega⟩) (⟨by omega, by omega⟩) (fun hc4 => ?_) (fun hc4 => ?_)
            · exact k42 (fun q => by have := tc_cnt_lt hp02 q; omega)
            · have hpr : p0 < r := tc_lt_of_cnt (b := b) (by omega)
              refine lv_aload_n hx hb dX1_next_25 rfl (lv_at hl 0 rfl) ?_
              refine va_get (D := D) (ci := 1) (v := .ref (A 2)) (C := RX1) (T := TX1) (N := 6) hx hb hts in_X1 hown hK hP 0 rfl rfl 4 (by decide) (hts _ q170) (fun _ h9 => h9) rfl dX1_next_26 ?_
              refine lv_iload_n hx hb dX1_next_29 rfl (lv_at hl 3 rfl) ?_
              refine z_iald hx hb hK hP 2 1 rfl rfl (k := tc_cnt b q) (by omega) (by decide) (v := (zI (x))) (hx1) dX1_next_30 ?_
              refine lv_aload_n hx hb dX1_next_31 rfl (lv_at hl 0 rfl) ?_
              refine va_get (D := D) (ci := 1) (v := .ref (A 2)) (C := RX1) (T := TX1) (N := 6) hx hb hts in_X1 hown hK hP 0 rfl rfl 4 (by decide) (hts _ q170) (fun _ h9 => h9) rfl dX1_next_32 ?_
              refine lv_iload_n hx hb dX1_next_35 rfl (lv_at hl 1 rfl) ?_
              refine z_iald hx hb hK hP 2 1 rfl rfl (k := tc_cnt b p0) (by omega) (by decide) (v := (zI (xp0))) (hxp01) dX1_next_36 ?_
              refine z_icmp_ne (tgt := 42) hx hb dX1_next_37 (by decide) (⟨by omega, by omega⟩) (⟨by omega, by omega⟩) (fun hc5 => ?_) (fun hc5 => ?_)
              · exact k42 (fun _ w => hc5 (tc_sib_tp hok hpr (by omega) hxp02 hx2 w).symm)
              · have hsb : tc_sib b p0 r := tc_sib_of hok hpr (by omega) hxp02 (by rw [← hc5]; exact hx2)
                refine lv_iload_n hx hb dX1_next_40 rfl (lv_at hl 3 rfl) ?_
                exact mu_ret (u := (zI (tc_cnt b (n) : Int), zI z1, up1, dp1)) hx hb hr hlocks hP hK hD hS (Or.inr ⟨p0, _, hNp0, Or.inl ⟨r, hpr, hr2, hr3, hsb, hlow, by rw [hr4]⟩, rfl⟩) dX1_next_41
    refine lv_istore_n (lv' := [(2, .int (rb)), (0, .ref (A 0)), (1, .int (zI ((tc_cnt b p0 : Int))))]) hx hb dX1_next_5 rfl hl (by decide) rfl (fun ls hl => ?_)
    refine lv_iconst (v := zI 0) hx hb dX1_next_6 rfl ?_
    refine z_set (y := (tc_cnt b 0 : Int)) (rfl) ?_
    refine lv_istore_n (lv' := [(3, .int (zI ((tc_cnt b 0 : Int)))), (2, .int (rb)), (0, .ref (A 0)), (1, .int (zI ((tc_cnt b p0 : Int))))]) hx hb dX1_next_7 rfl hl (by decide) rfl (fun ls hl => ?_)
    exact loop (n + 1) 0 (by omega) (by omega) (fun i _ a => absurd a (Nat.not_lt_zero i)) ls (lv_sub hl [2, 3, 1, 0] rfl)
  · refine lv_istore_n (lv' := [(2, .int (rb)), (0, .ref (A 0)), (1, .int (zI (z)))]) hx hb dX1_next_5 rfl hl (by decide) rfl (fun ls hl => ?_)
    refine lv_iconst (v := zI 0) hx hb dX1_next_6 rfl ?_
    refine lv_istore_n (lv' := [(3, .int (zI (0))), (2, .int (rb)), (0, .ref (A 0)), (1, .int (zI (z)))]) hx hb dX1_next_7 rfl hl (by decide) rfl (fun ls hl => ?_)
    refine lv_iload_n hx hb dX1_next_8 rfl (lv_at hl 0 rfl) ?_
    refine lv_aload_n hx hb dX1_next_9 rfl (lv_at hl 2 rfl) ?_
    refine va_get (D := D) (ci := 1) (v := .int (zI ((tc_cnt b (n) : Int)))) (C := RX1) (T := TX1) (N := 6) hx hb hts in_X1 hown hK hP 0 rfl rfl 2 (by decide) (hts _ q168) (fun _ h9 => h9) rfl dX1_next_10 ?_
    refine z_icmp_ge (tgt := 48) hx hb dX1_next_13 (by decide) (⟨by omega, by omega⟩) (⟨by omega, by omega⟩) (fun hc2 => ?_) (fun hc2 => ?_)
    · refine lv_iconst (v := zI (-1)) hx hb dX1_next_48 rfl ?_
      exact mu_ret (u := (zI (tc_cnt b (n) : Int), zI z1, up1, dp1)) hx hb hr hlocks hP hK hD hS (Or.inl ⟨hnd, rfl⟩) dX1_next_49
    · refine lv_iload_n hx hb dX1_next_16 rfl (lv_at hl 1 rfl) ?_
      refine t_if_eq (tgt := 48) hx hb dX1_next_17 (by decide) hN (fun hc3 => ?_) (fun hc3 => ?_)
      · refine lv_iconst (v := zI (-1)) hx hb dX1_next_48 rfl ?_
        exact mu_ret (u := (zI (tc_cnt b (n) : Int), zI z1, up1, dp1)) hx hb hr hlocks hP hK hD hS (Or.inl ⟨hnd, rfl⟩) dX1_next_49
      · exact absurd hc3 hnd
abbrev rmX1_previous : Room := { frames := 2, cells := 0, slots := 0, locals := 42 }
set_option maxHeartbeats 4000000 in
set_option maxRecDepth 100000 in
theorem kM_previous (l : Launch) (D : va_G) (A : Nat → Nat) (d : Nat → ClassId) {n : Nat} {b : Nat → Bool} {bs : Nat → Int32} (hn : n ≤ 64) (hok : tc_ok n b) (hbs : tc_bs n b bs) (z : Int) (hz : zs z) (ct la : Int32) (up dp : Nat → Int32) (sz : Nat) : mu_Met l yX1_previous cX1_previous 4 (some .int) rmX1_previous D (tc_mW A d (zI (n : Int)) bs ct la up dp) (tc_mT d) sz [.ref (A 0), .int (zI (z))] (mu_Q tc_M4 D (tc_mT d) (fun u => tc_mW A d (zI (n : Int)) bs u.1 u.2.1 u.2.2.1 u.2.2.2) (va_A (tc_mW A d (zI (n : Int)) bs ct la up dp) sz) (fun r _ => tc_S n b (tc_Rprev b) (zI z) r)) := by
  refine mu_of (by decide) (Nat.le_of_ble_eq_true rfl) ?_
  intro p e s m below meth c ls C hl
  generalize va_A (tc_mW A d (zI (n : Int)) bs ct la up dp) sz = AA at C ⊢
  obtain ⟨hx, hb, hr, hml, hown, hts, hlocks, hP, hK, hD, hA, hS⟩ := C
  have hown : s.vm.findClass RX1 = some m.cls := hown
  have hl : lv_has ls 4 [(0, .ref (A 0)), (1, .int (zI (z)))] := hl
  have cn := tc_cnt_le b n
  refine lv_aload_n hx hb dX1_previous_0 rfl (lv_at hl 0 rfl) ?_
  refine lv_iload_n hx hb dX1_previous_1 rfl (lv_at hl 1 rfl) ?_
  refine mu_call (n := 1) (wr := []) hx hb hml hown hts (kM_node l D A d hn hok hbs z hz _ _ _ _ s.heap.size) (lw_V q215 q217 qs12 q17 q218) (by decide +kernel) ⟨Nat.le_of_ble_eq_true rfl, Nat.le_of_ble_eq_true rfl⟩ ⟨rfl, rfl⟩ hK hP hD hS hA [0, 1, 2, 3] [] rfl rfl rfl (by decide) (by decide) (by decide) rfl rfl rfl hl rfl (Nat.le_of_ble_eq_true rfl) dX1_previous_2 ⟨Nat.le_of_ble_eq_true rfl, Nat.le_of_ble_eq_true rfl⟩ (fun rb u H locs hU hP hD hS => ?_)
  obtain ⟨ct1, la1, up1, dp1⟩ := u
  have hN : tc_bit (tc_nd n b (zI (z))) rb := hU.1
  have hU : tc_mQ n b ct1 la1 up1 dp1 := hU.2
  obtain ⟨rfl, ⟨z1, rfl, hz1⟩, hT1⟩ := hU
  have zb1 := tc_tp_bd hz1
  have hP : va_P D tc_Cl (tc_mW A d (zI (n : Int)) (bs) (zI (tc_cnt b (n) : Int)) (zI z1) (up1) (dp1)) H := hP
  have hD : va_D AA (tc_mW A d (zI (n : Int)) (bs) (zI (tc_cnt b (n) : Int)) (zI z1) (up1) (dp1)) := hD
  by_cases hnd : tc_nd n b (zI z)
  · have hc := hnd
    obtain ⟨p0, hp01, hp02, hp00⟩ := tc_nd_ob hn hz hc
    subst hp00
    have hNp0 : tc_isN n b p0 (zI (tc_cnt b p0 : Int)) := ⟨hp01, hp02, rfl⟩
    have cp0 := tc_cnt_le b p0
    obtain ⟨⟨xp0, hxp01, hxp02⟩, hdp0⟩ := hT1 p0 hp01 hp02
    have xbp0 := tc_tp_bd hxp02
    have loop : ∀ (f : Nat) (j : Nat), j + 1 ≤ f → j ≤ tc_cnt b n → (∀ i, i < p0 → b i = true → j ≤ tc_cnt b i → ¬ tc_sib b i p0) → ∀ (ls : Array Slot), lv_has ls 4 [(0, .ref (A 0)), (1, .int (zI ((tc_cnt b p0 : Int)))), (2, .int (rb)), (3, .int (zI ((j : Int) - 1)))] → mu_G p l e s m below meth c yX1_previous cX1_previous 4 (some .int) rmX1_previous [.ref (A 0), .int (zI ((tc_cnt b p0 : Int)))] (mu_Q tc_M4 D (tc_mT d) (fun u => tc_mW A d (zI (n : Int)) bs u.1 u.2.1 u.2.2.1 u.2.2.2) AA (fun r _ => tc_S n b (tc_Rprev b) (zI ((tc_cnt b p0 : Int))) r)) AA H locs (F0 m 13 ls []) := by
      intro f
      induction f with
      | zero => intro j h1 h2 h3; exact absurd h1 (by omega)
      | succ f ih =>
        intro j h1 h2 h3 ls hl
        refine lv_iload_n hx hb dX1_previous_13 rfl (lv_at hl 3 rfl) ?_
        refine z_if_lt (tgt := 49) hx hb dX1_previous_14 (by decide) (⟨by omega, by omega⟩) (fun hc2 => ?_) (fun hc2 => ?_)
        · refine lv_iconst (v := zI (-1)) hx hb dX1_previous_49 rfl ?_
          exact mu_ret (u := (zI (tc_cnt b (n) : Int), zI z1, up1, dp1)) hx hb hr hlocks hP hK hD hS (Or.inr ⟨p0, -1, hNp0, Or.inr ⟨fun i a e => h3 i a e (by omega), rfl⟩, rfl⟩) dX1_previous_50
        · refine lv_iload_n hx hb dX1_previous_17 rfl (lv_at hl 2 rfl) ?_
          refine t_if_eq (tgt := 49) hx hb dX1_previous_18 (by decide) hN (fun hc3 => ?_) (fun hc3 => ?_)
          · exact absurd ⟨p0, hNp0⟩ hc3
          · obtain ⟨r, hr2, hr3, hr4⟩ := tc_place (b := b) (n := n) (v := j - 1) (by omega)
            have cr := tc_cnt_le b r
            obtain ⟨⟨x, hx1, hx2⟩, _⟩ := hT1 r hr2 hr3
            rw [hr4] at hx1
            have xb := tc_tp_bd hx2
            have k43 : (r < p0 → ¬ tc_sib b r p0) → mu_G p l e s m below meth c yX1_previous cX1_previous 4 (some .int) rmX1_previous [.ref (A 0), .int (zI ((tc_cnt b p0 : Int)))] (mu_Q tc_M4 D (tc_mT d) (fun u => tc_mW A d (zI (n : Int)) bs u.1 u.2.1 u.2.2.1 u.2.2.2) AA (fun r _ => tc_S n b (tc_Rprev b) (zI ((tc_cnt b p0 : Int))) r)) AA H locs (F0 m 43 ls []) := by
              intro hns
              refine lv_iinc (v := zI (((j - 1 : Nat) : Int) - 1)) (lv' := [(3, .int (zI (((j - 1 : Nat) : Int) - 1))), (0, .ref (A 0)), (1, .int (zI ((tc_cnt b p0 : Int)))), (2, .int (rb))]) hx hb dX1_previous_43 hl (k := 3) rfl (zI_inc (by omega)) (by decide) rfl (fun ls hl => ?_)
              refine lv_goto (tgt := 13) hx hb dX1_previous_46 (by decide) ?_
              refine ih (j - 1) (by omega) (by omega) (fun i a e g => ?_) ls (lv_sub hl [1, 2, 3, 0] rfl)
              by_cases ei : i = r
              · rw [ei]; exact hns (by omega)
              · exact h3 i a e (by rcases Nat.lt_or_ge (tc_cnt b i) j with u | u; exact absurd (tc_inj e hr3 (by omega)) ei; exact u)
            refine lv_iload_n hx hb dX1_previous_21 rfl (lv_at hl 3 rfl) ?_
            refine lv_iload_n hx hb dX1_previous_22 rfl (lv_at hl 1 rfl) ?_
            refine z_icmp_ge (tgt := 43) hx hb dX1_previous_23 (by decide) (⟨by omega, by omega⟩) (⟨by omega, by omega⟩) (fun hc4 => ?_) (fun hc4 => ?_)
            · exact k43 (fun q => by have := tc_cnt_lt hr3 q; omega)
            · have hpr : r < p0 := tc_lt_of_cnt (b := b) (by omega)
              refine lv_aload_n hx hb dX1_previous_26 rfl (lv_at hl 0 rfl) ?_
              refine va_get (D := D) (ci := 1) (v := .ref (A 2)) (C := RX1) (T := TX1) (N := 6) hx hb hts in_X1 hown hK hP 0 rfl rfl 4 (by decide) (hts _ q170) (fun _ h9 => h9) rfl dX1_previous_27 ?_
              refine lv_iload_n hx hb dX1_previous_30 rfl (lv_at hl 3 rfl) ?_
              refine z_set (y := ((j - 1 : Nat) : Int)) (by omega) ?_
              refine z_iald hx hb hK hP 2 1 rfl rfl (k := j - 1) (by omega) (by decide) (v := (zI (x))) (hx1) dX1_previous_31 ?_
              refine lv_aload_n hx hb dX1_previous_32 rfl (lv_at hl 0 rfl) ?_
              refine va_get (D := D) (ci := 1) (v := .ref (A 2)) (C := RX1) (T := TX1) (N := 6) hx hb hts in_X1 hown hK hP 0 rfl rfl 4 (by decide) (hts _ q170) (fun _ h9 => h9) rfl dX1_previous_33 ?_
              refine lv_iload_n hx hb dX1_previous_36 rfl (lv_at hl 1 rfl) ?_
              refine z_iald hx hb hK hP 2 1 rfl rfl (k := tc_cnt b p0) (by omega) (by decide) (v := (zI (xp0))) (hxp01) dX1_previous_37 ?_
              refine z_icmp_ne (tgt := 43) hx hb dX1_previous_38 (by decide) (⟨by omega, by omega⟩) (⟨by omega, by omega⟩) (fun hc5 => ?_) (fun hc5 => ?_)
              · exact k43 (fun _ w => hc5 (tc_sib_tp hok hpr (by omega) hx2 hxp02 w))
              · have hsb : tc_sib b r p0 := tc_sib_of hok hpr (by omega) hx2 (by rw [hc5]; exact hxp02)
                refine lv_iload_n hx hb dX1_previous_41 rfl (lv_at hl 3 rfl) ?_
                refine z_set (y := (tc_cnt b r : Int)) (by omega) ?_
                exact mu_ret (u := (zI (tc_cnt b (n) : Int), zI z1, up1, dp1)) hx hb hr hlocks hP hK hD hS (Or.inr ⟨p0, _, hNp0, Or.inl ⟨r, hpr, hr3, hsb, fun i a c e => h3 i c e (by have := tc_cnt_lt hr3 a; omega), rfl⟩, rfl⟩) dX1_previous_42
    refine lv_istore_n (lv' := [(2, .int (rb)), (0, .ref (A 0)), (1, .int (zI ((tc_cnt b p0 : Int))))]) hx hb dX1_previous_5 rfl hl (by decide) rfl (fun ls hl => ?_)
    refine lv_aload_n hx hb dX1_previous_6 rfl (lv_at hl 1 rfl) ?_
    refine va_get (D := D) (ci := 1) (v := .int (zI ((tc_cnt b (n) : Int)))) (C := RX1) (T := TX1) (N := 6) hx hb hts in_X1 hown hK hP 0 rfl rfl 2 (by decide) (hts _ q168) (fun _ h9 => h9) rfl dX1_previous_7 ?_
    refine lv_iconst (v := zI 1) hx hb dX1_previous_10 rfl ?_
    refine z_isub hx hb dX1_previous_11 ?_
    refine lv_istore_n (lv' := [(3, .int (zI (((tc_cnt b (n) : Int)) - (1)))), (2, .int (rb)), (0, .ref (A 0)), (1, .int (zI ((tc_cnt b p0 : Int))))]) hx hb dX1_previous_12 rfl hl (by decide) rfl (fun ls hl => ?_)
    exact loop (tc_cnt b n + 1) (tc_cnt b n) (by omega) (by omega) (fun i a e g => by have := tc_cnt_lt e (show i < n by omega); omega) ls (lv_sub hl [2, 3, 1, 0] rfl)
  · refine lv_istore_n (lv' := [(2, .int (rb)), (0, .ref (A 0)), (1, .int (zI (z)))]) hx hb dX1_previous_5 rfl hl (by decide) rfl (fun ls hl => ?_)
    refine lv_aload_n hx hb dX1_previous_6 rfl (lv_at hl 1 rfl) ?_
    refine va_get (D := D) (ci := 1) (v := .int (zI ((tc_cnt b (n) : Int)))) (C := RX1) (T := TX1) (N := 6) hx hb hts in_X1 hown hK hP 0 rfl rfl 2 (by decide) (hts _ q168) (fun _ h9 => h9) rfl dX1_previous_7 ?_
    refine lv_iconst (v := zI 1) hx hb dX1_previous_10 rfl ?_
    refine z_isub hx hb dX1_previous_11 ?_
    refine lv_istore_n (lv' := [(3, .int (zI (((tc_cnt b (n) : Int)) - (1)))), (2, .int (rb)), (0, .ref (A 0)), (1, .int (zI (z)))]) hx hb dX1_previous_12 rfl hl (by decide) rfl (fun ls hl => ?_)
    refine lv_iload_n hx hb dX1_previous_13 rfl (lv_at hl 0 rfl) ?_
    refine z_if_lt (tgt := 49) hx hb dX1_previous_14 (by decide) (⟨by omega, by omega⟩) (fun hc2 => ?_) (fun hc2 => ?_)
    · refine lv_iconst (v := zI (-1)) hx hb dX1_previous_49 rfl ?_
      exact mu_ret (u := (zI (tc_cnt b (n) : Int), zI z1, up1, dp1)) hx hb hr hlocks hP hK hD hS (Or.inl ⟨hnd, rfl⟩) dX1_previous_50
    · refine lv_iload_n hx hb dX1_previous_17 rfl (lv_at hl 1 rfl) ?_
      refine t_if_eq (tgt := 49) hx hb dX1_previous_18 (by decide) hN (fun hc3 => ?_) (fun hc3 => ?_)
      · refine lv_iconst (v := zI (-1)) hx hb dX1_previous_49 rfl ?_
        exact mu_ret (u := (zI (tc_cnt b (n) : Int), zI z1, up1, dp1)) hx hb hr hlocks hP hK hD hS (Or.inl ⟨hnd, rfl⟩) dX1_previous_50
      · exact absurd hc3 hnd
abbrev rmX1_aboveAt : Room := { frames := 2, cells := 0, slots := 0, locals := 42 }
set_option maxHeartbeats 4000000 in
set_option maxRecDepth 100000 in
theorem kM_aboveAt (l : Launch) (D : va_G) (A : Nat → Nat) (d : Nat → ClassId) {n : Nat} {b : Nat → Bool} {bs : Nat → Int32} (hn : n ≤ 64) (hok : tc_ok n b) (hbs : tc_bs n b bs) (z : Int) (hz : zs z) (g : Int) (hg : zs g) (ct la : Int32) (up dp : Nat → Int32) (sz : Nat) : mu_Met l yX1_aboveAt cX1_aboveAt 5 (some .int) rmX1_aboveAt D (tc_mW A d (zI (n : Int)) bs ct la up dp) (tc_mT d) sz [.ref (A 0), .int (zI (z)), .int (zI (g))] (mu_Q tc_M4 D (tc_mT d) (fun u => tc_mW A d (zI (n : Int)) bs u.1 u.2.1 u.2.2.1 u.2.2.2) (va_A (tc_mW A d (zI (n : Int)) bs ct la up dp) sz) (fun r _ => tc_S n b (tc_Rabove b (zI g)) (zI z) r)) := by
  refine mu_of (by decide) (Nat.le_of_ble_eq_true rfl) ?_
  intro p e s m below meth c ls C hl
  generalize va_A (tc_mW A d (zI (n : Int)) bs ct la up dp) sz = AA at C ⊢
  obtain ⟨hx, hb, hr, hml, hown, hts, hlocks, hP, hK, hD, hA, hS⟩ := C
  have hown : s.vm.findClass RX1 = some m.cls := hown
  have hl : lv_has ls 5 [(0, .ref (A 0)), (1, .int (zI (z))), (2, .int (zI (g)))] := hl
  have cn := tc_cnt_le b n
  refine lv_aload_n hx hb dX1_aboveAt_0 rfl (lv_at hl 0 rfl) ?_
  refine lv_iload_n hx hb dX1_aboveAt_1 rfl (lv_at hl 1 rfl) ?_
  refine mu_call (n := 1) (wr := []) hx hb hml hown hts (kM_node l D A d hn hok hbs z hz _ _ _ _ s.heap.size) (lw_V q215 q217 qs12 q17 q218) (by decide +kernel) ⟨Nat.le_of_ble_eq_true rfl, Nat.le_of_ble_eq_true rfl⟩ ⟨rfl, rfl⟩ hK hP hD hS hA [0, 1, 2, 3] [] rfl rfl rfl (by decide) (by decide) (by decide) rfl rfl rfl hl rfl (Nat.le_of_ble_eq_true rfl) dX1_aboveAt_2 ⟨Nat.le_of_ble_eq_true rfl, Nat.le_of_ble_eq_true rfl⟩ (fun rb u H locs hU hP hD hS => ?_)
  obtain ⟨ct1, la1, up1, dp1⟩ := u
  have hN : tc_bit (tc_nd n b (zI (z))) rb := hU.1
  have hU : tc_mQ n b ct1 la1 up1 dp1 := hU.2
  obtain ⟨rfl, ⟨z1, rfl, hz1⟩, hT1⟩ := hU
  have zb1 := tc_tp_bd hz1
  have hP : va_P D tc_Cl (tc_mW A d (zI (n : Int)) (bs) (zI (tc_cnt b (n) : Int)) (zI z1) (up1) (dp1)) H := hP
  have hD : va_D AA (tc_mW A d (zI (n : Int)) (bs) (zI (tc_cnt b (n) : Int)) (zI z1) (up1) (dp1)) := hD
  by_cases hnd : tc_nd n b (zI z)
  · have hc := hnd
    obtain ⟨p0, hp01, hp02, hp00⟩ := tc_nd_ob hn hz hc
    subst hp00
    have hNp0 : tc_isN n b p0 (zI (tc_cnt b p0 : Int)) := ⟨hp01, hp02, rfl⟩
    have cp0 := tc_cnt_le b p0
    obtain ⟨⟨xp0, hxp01, hxp02⟩, hdp0⟩ := hT1 p0 hp01 hp02
    have xbp0 := tc_tp_bd hxp02
    have loop : ∀ (f : Nat) (q : Nat), n + 1 ≤ q + f → q ≤ n → (∀ i, i < q → b i = true → tc_anc b i p0 → zI g ≠ zI (tc_lev b i)) → ∀ (ls : Array Slot), lv_has ls 5 [(0, .ref (A 0)), (1, .int (zI ((tc_cnt b p0 : Int)))), (2, .int (zI (g))), (3, .int (rb)), (4, .int (zI ((tc_cnt b q : Int))))] → mu_G p l e s m below meth c yX1_aboveAt cX1_aboveAt 5 (some .int) rmX1_aboveAt [.ref (A 0), .int (zI ((tc_cnt b p0 : Int))), .int (zI (g))] (mu_Q tc_M4 D (tc_mT d) (fun u => tc_mW A d (zI (n : Int)) bs u.1 u.2.1 u.2.2.1 u.2.2.2) AA (fun r _ => tc_S n b (tc_Rabove b (zI g)) (zI ((tc_cnt b p0 : Int))) r)) AA H locs (F0 m 9 ls []) := by
      intro f
      induction f with
      | zero => intro q h1 h2 h3; exact absurd h1 (by omega)
      | succ f ih =>
        intro q h1 h2 h3 ls hl
        have cq := tc_cnt_le b q
        refine lv_iload hx hb dX1_aboveAt_9 (lv_at hl 4 rfl) ?_
        refine lv_aload_n hx hb dX1_aboveAt_11 rfl (lv_at hl 0 rfl) ?_
        refine va_get (D := D) (ci := 1) (v := .int (zI ((tc_cnt b (n) : Int)))) (C := RX1) (T := TX1) (N := 6) hx hb hts in_X1 hown hK hP 0 rfl rfl 2 (by decide) (hts _ q168) (fun _ h9 => h9) rfl dX1_aboveAt_12 ?_
        refine z_icmp_ge (tgt := 52) hx hb dX1_aboveAt_15 (by decide) (⟨by omega, by omega⟩) (⟨by omega, by omega⟩) (fun hc2 => ?_) (fun hc2 => ?_)
        · refine lv_iconst (v := zI (-1)) hx hb dX1_aboveAt_52 rfl ?_
          exact mu_ret (u := (zI (tc_cnt b (n) : Int), zI z1, up1, dp1)) hx hb hr hlocks hP hK hD hS (Or.inr ⟨p0, -1, hNp0, Or.inr ⟨fun i c e => h3 i (by rcases Nat.lt_or_ge i q with u | u; exact u; exact absurd (tc_flat (b := b) (q := q) (n := n) (by omega) i u (by have := e.1; omega)) (by rw [c]; decide)) c e, rfl⟩, rfl⟩) dX1_aboveAt_53
        · refine lv_iload_n hx hb dX1_aboveAt_18 rfl (lv_at hl 3 rfl) ?_
          refine t_if_eq (tgt := 52) hx hb dX1_aboveAt_19 (by decide) hN (fun hc3 => ?_) (fun hc3 => ?_)
          · exact absurd ⟨p0, hNp0⟩ hc3
          · obtain ⟨r, hr1, hr2, hr3, hr4, hr5⟩ := tc_nxt (b := b) (n := n) (q := q) h2 (by omega)
            have cr := tc_cnt_le b r
            have hlow : ∀ i, i < r → b i = true → tc_anc b i p0 → zI g ≠ zI (tc_lev b i) := fun i c e => h3 i (by rcases Nat.lt_or_ge i q with u | u; exact u; exact absurd (hr5 i u c) (by rw [e]; decide)) e
            have hdr := (hT1 r hr2 hr3).2
            rw [hr4] at hdr
            have k46 : ¬ (tc_anc b r p0 ∧ zI g = zI (tc_lev b r)) → mu_G p l e s m below meth c yX1_aboveAt cX1_aboveAt 5 (some .int) rmX1_aboveAt [.ref (A 0), .int (zI ((tc_cnt b p0 : Int))), .int (zI (g))] (mu_Q tc_M4 D (tc_mT d) (fun u => tc_mW A d (zI (n : Int)) bs u.1 u.2.1 u.2.2.1 u.2.2.2) AA (fun r _ => tc_S n b (tc_Rabove b (zI g)) (zI ((tc_cnt b p0 : Int))) r)) AA H locs (F0 m 46 ls []) := by
              intro hns
              refine lv_iinc (v := zI ((tc_cnt b (r + 1) : Int))) (lv' := [(4, .int (zI ((tc_cnt b (r + 1) : Int)))), (0, .ref (A 0)), (1, .int (zI ((tc_cnt b p0 : Int)))), (2, .int (zI (g))), (3, .int (rb))]) hx hb dX1_aboveAt_46 hl (k := 4) rfl (zI_inc (by rw [tc_cnt_t hr3]; omega)) (by decide) rfl (fun ls hl => ?_)
              refine lv_goto (tgt := 9) hx hb dX1_aboveAt_49 (by decide) ?_
              refine ih (r + 1) (by omega) (by omega) (fun i a c e => ?_) ls (lv_sub hl [1, 2, 3, 4, 0] rfl)
              by_cases ei : i = r
              · rw [ei] at e ⊢; exact fun q => hns ⟨e, q⟩
              · exact hlow i (by omega) c e
            refine lv_aload_n hx hb dX1_aboveAt_22 rfl (lv_at hl 0 rfl) ?_
            refine lv_iload_n hx hb dX1_aboveAt_23 rfl (lv_at hl 1 rfl) ?_
            refine lv_iload hx hb dX1_aboveAt_24 (lv_at hl 4 rfl) ?_
            refine z_set (y := (tc_cnt b r : Int)) (by rw [hr4]) ?_
            refine ro_call (n := 2) hx hb hml hown hts (kM_under l D A d hn hok hT1 p0 r hp01 hp02 hr2 hr3) (lw_V q227 q229 qs13 q17 q230) (by decide +kernel) ⟨Nat.le_of_ble_eq_true rfl, Nat.le_of_ble_eq_true rfl⟩ ⟨rfl, rfl⟩ hK hP rfl rfl rfl hl rfl (Nat.le_of_ble_eq_true rfl) dX1_aboveAt_26 ⟨Nat.le_of_ble_eq_true rfl, Nat.le_of_ble_eq_true rfl⟩ (fun r26 hB => ?_)
            refine t_if_eq (tgt := 46) hx hb dX1_aboveAt_29 (by decide) hB (fun hc4 => ?_) (fun hc4 => ?_)
            · exact k46 (fun q => hc4 q.1)
            · refine lv_aload_n hx hb dX1_aboveAt_32 rfl (lv_at hl 0 rfl) ?_
              refine va_get (D := D) (ci := 1) (v := .ref (A 3)) (C := RX1) (T := TX1) (N := 6) hx hb hts in_X1 hown hK hP 0 rfl rfl 5 (by decide) (hts _ q171) (fun _ h9 => h9) rfl dX1_aboveAt_33 ?_
              refine lv_iload hx hb dX1_aboveAt_36 (lv_at hl 4 rfl) ?_
              refine z_iald hx hb hK hP 3 2 rfl rfl (k := tc_cnt b q) (by omega) (by decide) (v := (zI (tc_lev b r))) (hdr) dX1_aboveAt_38 ?_
              refine lv_iload_n hx hb dX1_aboveAt_39 rfl (lv_at hl 2 rfl) ?_
              refine z_icmp_ne (tgt := 46) hx hb dX1_aboveAt_40 (by decide) (tc_zlev (by omega)) (hg) (fun hc5 => ?_) (fun hc5 => ?_)
              · exact k46 (fun q => hc5 ((zI_eq hg (tc_zlev (by omega))).mp q.2).symm)
              · refine lv_iload hx hb dX1_aboveAt_43 (lv_at hl 4 rfl) ?_
                exact mu_ret (u := (zI (tc_cnt b (n) : Int), zI z1, up1, dp1)) hx hb hr hlocks hP hK hD hS (Or.inr ⟨p0, _, hNp0, Or.inl ⟨r, hr3, hc4, by rw [hc5], by rw [hr4]⟩, rfl⟩) dX1_aboveAt_45
    refine lv_istore_n (lv' := [(3, .int (rb)), (0, .ref (A 0)), (1, .int (zI ((tc_cnt b p0 : Int)))), (2, .int (zI (g)))]) hx hb dX1_aboveAt_5 rfl hl (by decide) rfl (fun ls hl => ?_)
    refine lv_iconst (v := zI 0) hx hb dX1_aboveAt_6 rfl ?_
    refine z_set (y := (tc_cnt b 0 : Int)) (rfl) ?_
    refine lv_istore (lv' := [(4, .int (zI ((tc_cnt b 0 : Int)))), (3, .int (rb)), (0, .ref (A 0)), (1, .int (zI ((tc_cnt b p0 : Int)))), (2, .int (zI (g)))]) hx hb dX1_aboveAt_7 hl (by decide) rfl (fun ls hl => ?_)
    exact loop (n + 1) 0 (by omega) (by omega) (fun i a => absurd a (Nat.not_lt_zero i)) ls (lv_sub hl [2, 3, 4, 1, 0] rfl)
  · refine lv_istore_n (lv' := [(3, .int (rb)), (0, .ref (A 0)), (1, .int (zI (z))), (2, .int (zI (g)))]) hx hb dX1_aboveAt_5 rfl hl (by decide) rfl (fun ls hl => ?_)
    refine lv_iconst (v := zI 0) hx hb dX1_aboveAt_6 rfl ?_
    refine lv_istore (lv' := [(4, .int (zI (0))), (3, .int (rb)), (0, .ref (A 0)), (1, .int (zI (z))), (2, .int (zI (g)))]) hx hb dX1_aboveAt_7 hl (by decide) rfl (fun ls hl => ?_)
    refine lv_iload hx hb dX1_aboveAt_9 (lv_at hl 0 rfl) ?_
    refine lv_aload_n hx hb dX1_aboveAt_11 rfl (lv_at hl 2 rfl) ?_
    refine va_get (D := D) (ci := 1) (v := .int (zI ((tc_cnt b (n) : Int)))) (C := RX1) (T := TX1) (N := 6) hx hb hts in_X1 hown hK hP 0 rfl rfl 2 (by decide) (hts _ q168) (fun _ h9 => h9) rfl dX1_aboveAt_12 ?_
    refine z_icmp_ge (tgt := 52) hx hb dX1_aboveAt_15 (by decide) (⟨by omega, by omega⟩) (⟨by omega, by omega⟩) (fun hc2 => ?_) (fun hc2 => ?_)
    · refine lv_iconst (v := zI (-1)) hx hb dX1_aboveAt_52 rfl ?_
      exact mu_ret (u := (zI (tc_cnt b (n) : Int), zI z1, up1, dp1)) hx hb hr hlocks hP hK hD hS (Or.inl ⟨hnd, rfl⟩) dX1_aboveAt_53
    · refine lv_iload_n hx hb dX1_aboveAt_18 rfl (lv_at hl 1 rfl) ?_
      refine t_if_eq (tgt := 52) hx hb dX1_aboveAt_19 (by decide) hN (fun hc3 => ?_) (fun hc3 => ?_)
      · refine lv_iconst (v := zI (-1)) hx hb dX1_aboveAt_52 rfl ?_
        exact mu_ret (u := (zI (tc_cnt b (n) : Int), zI z1, up1, dp1)) hx hb hr hlocks hP hK hD hS (Or.inl ⟨hnd, rfl⟩) dX1_aboveAt_53
      · exact absurd hc3 hnd
abbrev rmX1_meet : Room := { frames := 2, cells := 0, slots := 0, locals := 42 }
set_option maxHeartbeats 4000000 in
set_option maxRecDepth 100000 in
theorem kM_meet (l : Launch) (D : va_G) (A : Nat → Nat) (d : Nat → ClassId) {n : Nat} {b : Nat → Bool} {bs : Nat → Int32} (hn : n ≤ 64) (hok : tc_ok n b) (hbs : tc_bs n b bs) (z : Int) (hz : zs z) (y : Int) (hy : zs y) (ct la : Int32) (up dp : Nat → Int32) (sz : Nat) : mu_Met l yX1_meet cX1_meet 6 (some .int) rmX1_meet D (tc_mW A d (zI (n : Int)) bs ct la up dp) (tc_mT d) sz [.ref (A 0), .int (zI (z)), .int (zI (y))] (mu_Q tc_M4 D (tc_mT d) (fun u => tc_mW A d (zI (n : Int)) bs u.1 u.2.1 u.2.2.1 u.2.2.2) (va_A (tc_mW A d (zI (n : Int)) bs ct la up dp) sz) (fun r _ => tc_Smeet n b (zI z) (zI y) r)) := by
  refine mu_of (by decide) (Nat.le_of_ble_eq_true rfl) ?_
  intro p e s m below meth c ls C hl
  generalize va_A (tc_mW A d (zI (n : Int)) bs ct la up dp) sz = AA at C ⊢
  obtain ⟨hx, hb, hr, hml, hown, hts, hlocks, hP, hK, hD, hA, hS⟩ := C
  have hown : s.vm.findClass RX1 = some m.cls := hown
  have hl : lv_has ls 6 [(0, .ref (A 0)), (1, .int (zI (z))), (2, .int (zI (y)))] := hl
  have cn := tc_cnt_le b n
  refine lv_iconst (v := zI (-1)) hx hb dX1_meet_0 rfl ?_
  refine lv_istore_n (lv' := [(3, .int (zI ((-1)))), (0, .ref (A 0)), (1, .int (zI (z))), (2, .int (zI (y)))]) hx hb dX1_meet_1 rfl hl (by decide) rfl (fun ls hl => ?_)
  have k23 : ∀ (rb : Int32) (z1 : Int) (up1 dp1 : Nat → Int32) (H : Heap) (locs : List Loc), tc_bit (tc_nd n b (zI z) ∧ tc_nd n b (zI y)) rb → tc_TT b n up1 dp1 → va_P D tc_Cl (tc_mW A d (zI (n : Int)) (bs) (zI (tc_cnt b n : Int)) (zI z1) (up1) (dp1)) H → va_D AA (tc_mW A d (zI (n : Int)) (bs) (zI (tc_cnt b n : Int)) (zI z1) (up1) (dp1)) → va_S AA s.heap H locs → ∀ (ls : Array Slot), lv_has ls 6 [(0, .ref (A 0)), (1, .int (zI (z))), (2, .int (zI (y))), (3, .int (zI ((-1))))] → mu_G p l e s m below meth c yX1_meet cX1_meet 6 (some .int) rmX1_meet [.ref (A 0), .int (zI (z)), .int (zI (y))] (mu_Q tc_M4 D (tc_mT d) (fun u => tc_mW A d (zI (n : Int)) bs u.1 u.2.1 u.2.2.1 u.2.2.2) AA (fun r _ => tc_Smeet n b (zI z) (zI y) r)) AA H locs (F0 m 23 ls [.int (rb)]) := by
    intro rb z1 up1 dp1 H locs hN hT1 hP hD hS ls hl
    by_cases hnd : tc_nd n b (zI z) ∧ tc_nd n b (zI y)
    · have hnd0 := hnd
      obtain ⟨hc, hcy⟩ := hnd
      obtain ⟨p0, hp01, hp02, hp00⟩ := tc_nd_ob hn hz hc
      subst hp00
      have hNp0 : tc_isN n b p0 (zI (tc_cnt b p0 : Int)) := ⟨hp01, hp02, rfl⟩
      have cp0 := tc_cnt_le b p0
      obtain ⟨⟨xp0, hxp01, hxp02⟩, hdp0⟩ := hT1 p0 hp01 hp02
      have xbp0 := tc_tp_bd hxp02
      obtain ⟨q0, hq01, hq02, hq00⟩ := tc_nd_ob hn hy hcy
      subst hq00
      have hNq0 : tc_isN n b q0 (zI (tc_cnt b q0 : Int)) := ⟨hq01, hq02, rfl⟩
      have cq0 := tc_cnt_le b q0
      obtain ⟨⟨xq0, hxq01, hxq02⟩, hdq0⟩ := hT1 q0 hq01 hq02
      have xbq0 := tc_tp_bd hxq02
      have lp1 := tc_lev_le b p0
      have loop : ∀ (f : Nat) (q : Nat) (x : Int), n + 1 ≤ q + f → q ≤ n → ((x = -1 ∧ ∀ i, i < q → b i = true → tc_anc b i p0 → tc_anc b i q0 → False) ∨ ∃ k, k < n ∧ b k = true ∧ tc_anc b k p0 ∧ tc_anc b k q0 ∧ x = (tc_cnt b k : Int) ∧ ∀ i, i < q → b i = true → tc_anc b i p0 → tc_anc b i q0 → tc_lev b i ≤ tc_lev b k) → ∀ (ls : Array Slot), lv_has ls 6 [(0, .ref (A 0)), (1, .int (zI ((tc_cnt b p0 : Int)))), (2, .int (zI ((tc_cnt b q0 : Int)))), (3, .int (zI (x))), (4, .int (rb)), (5, .int (zI ((tc_cnt b q : Int))))] → mu_G p l e s m below meth c yX1_meet cX1_meet 6 (some .int) rmX1_meet [.ref (A 0), .int (zI ((tc_cnt b p0 : Int))), .int (zI ((tc_cnt b q0 : Int)))] (mu_Q tc_M4 D (tc_mT d) (fun u => tc_mW A d (zI (n : Int)) bs u.1 u.2.1 u.2.2.1 u.2.2.2) AA (fun r _ => tc_Smeet n b (zI ((tc_cnt b p0 : Int))) (zI ((tc_cnt b q0 : Int))) r)) AA H locs (F0 m 28 ls []) := by
        intro f
        induction f with
        | zero => intro q x h1 h2 h3; exact absurd h1 (by omega)
        | succ f ih =>
          intro q x h1 h2 h3 ls hl
          have cq := tc_cnt_le b q
          have hxb : -1 ≤ x ∧ x ≤ 64 := by
            rcases h3 with ⟨a, _⟩ | ⟨k, a, _, _, _, c, _⟩
            · omega
            · have := tc_cnt_le b k; omega
          refine lv_iload hx hb dX1_meet_28 (lv_at hl 5 rfl) ?_
          refine lv_aload_n hx hb dX1_meet_30 rfl (lv_at hl 0 rfl) ?_
          refine va_get (D := D) (ci := 1) (v := .int (zI ((tc_cnt b n : Int)))) (C := RX1) (T := TX1) (N := 6) hx hb hts in_X1 hown hK hP 0 rfl rfl 2 (by decide) (hts _ q168) (fun _ h9 => h9) rfl dX1_meet_31 ?_
          refine z_icmp_ge (tgt := 95) hx hb dX1_meet_34 (by decide) (⟨by omega, by omega⟩) (⟨by omega, by omega⟩) (fun hc2 => ?_) (fun hc2 => ?_)
          · refine lv_iload_n hx hb dX1_meet_95 rfl (lv_at hl 3 rfl) ?_
            have hall : ∀ i, b i = true → tc_anc b i p0 → i < q := fun i c e => by rcases Nat.lt_or_ge i q with u | u; exact u; exact absurd (tc_flat (b := b) (q := q) (n := n) (by omega) i u (by have := e.1; omega)) (by rw [c]; decide)
            rcases h3 with ⟨a, c⟩ | ⟨k, a1, a2, a3, a4, a5, a6⟩
            · subst a
              exact mu_ret (u := (zI (tc_cnt b n : Int), zI z1, up1, dp1)) hx hb hr hlocks hP hK hD hS (Or.inr ⟨p0, q0, -1, hNp0, hNq0, Or.inr ⟨fun i e g h => c i (hall i e g) e g h, rfl⟩, rfl⟩) dX1_meet_96
            · subst a5
              exact mu_ret (u := (zI (tc_cnt b n : Int), zI z1, up1, dp1)) hx hb hr hlocks hP hK hD hS (Or.inr ⟨p0, q0, _, hNp0, hNq0, Or.inl ⟨k, a2, a3, a4, fun i e g h => a6 i (hall i e g) e g h, rfl⟩, rfl⟩) dX1_meet_96
          · refine lv_iload hx hb dX1_meet_37 (lv_at hl 4 rfl) ?_
            refine t_if_eq (tgt := 95) hx hb dX1_meet_39 (by decide) hN (fun hc3 => ?_) (fun hc3 => ?_)
            · exact absurd hnd0 hc3
            · obtain ⟨r, hr1, hr2, hr3, hr4, hr5⟩ := tc_nxt (b := b) (n := n) (q := q) h2 (by omega)
              have cr := tc_cnt_le b r
              have lr1 := tc_lev_le b r
              have lr2 := hok r (by omega)
              have hdr := (hT1 r hr2 hr3).2
              rw [hr4] at hdr
              have hlow : ∀ i, i < r → b i = true → i < q := fun i c e => by rcases Nat.lt_or_ge i q with u | u; exact u; exact absurd (hr5 i u c) (by rw [e]; decide)
              have k88 : ∀ x : Int, ((x = -1 ∧ ∀ i, i < r + 1 → b i = true → tc_anc b i p0 → tc_anc b i q0 → False) ∨ ∃ k, k < n ∧ b k = true ∧ tc_anc b k p0 ∧ tc_anc b k q0 ∧ x = (tc_cnt b k : Int) ∧ ∀ i, i < r + 1 → b i = true → tc_anc b i p0 → tc_anc b i q0 → tc_lev b i ≤ tc_lev b k) → mu_G p l e s m below meth c yX1_meet cX1_meet 6 (some .int) rmX1_meet [.ref (A 0), .int (zI ((tc_cnt b p0 : Int))), .int (zI ((tc_cnt b q0 : Int)))] (mu_Q tc_M4 D (tc_mT d) (fun u => tc_mW A d (zI (n : Int)) bs u.1 u.2.1 u.2.2.1 u.2.2.2) AA (fun r _ => tc_Smeet n b (zI ((tc_cnt b p0 : Int))) (zI ((tc_cnt b q0 : Int))) r)) AA H locs (F0 m 88 ls [.int (zI (x))]) := by
                intro x hinv
                refine lv_istore_n (lv' := [(3, .int (zI (x))), (0, .ref (A 0)), (1, .int (zI ((tc_cnt b p0 : Int)))), (2, .int (zI ((tc_cnt b q0 : Int)))), (4, .int (rb)), (5, .int (zI ((tc_cnt b q : Int))))]) hx hb dX1_meet_88 rfl hl (by decide) rfl (fun ls hl => ?_)
                refine lv_iinc (v := zI ((tc_cnt b (r + 1) : Int))) (lv' := [(5, .int (zI ((tc_cnt b (r + 1) : Int)))), (3, .int (zI (x))), (0, .ref (A 0)), (1, .int (zI ((tc_cnt b p0 : Int)))), (2, .int (zI ((tc_cnt b q0 : Int)))), (4, .int (rb))]) hx hb dX1_meet_89 hl (k := 5) rfl (zI_inc (by rw [tc_cnt_t hr3]; omega)) (by decide) rfl (fun ls hl => ?_)
                refine lv_goto (tgt := 28) hx hb dX1_meet_92 (by decide) ?_
                exact ih (r + 1) x (by omega) (by omega) hinv ls (lv_sub hl [2, 3, 4, 1, 5, 0] rfl)
              have k87 : (tc_anc b r p0 → tc_anc b r q0 → ∃ k, k < n ∧ b k = true ∧ tc_anc b k p0 ∧ x = (tc_cnt b k : Int) ∧ tc_lev b r ≤ tc_lev b k) → mu_G p l e s m below meth c yX1_meet cX1_meet 6 (some .int) rmX1_meet [.ref (A 0), .int (zI ((tc_cnt b p0 : Int))), .int (zI ((tc_cnt b q0 : Int)))] (mu_Q tc_M4 D (tc_mT d) (fun u => tc_mW A d (zI (n : Int)) bs u.1 u.2.1 u.2.2.1 u.2.2.2) AA (fun r _ => tc_Smeet n b (zI ((tc_cnt b p0 : Int))) (zI ((tc_cnt b q0 : Int))) r)) AA H locs (F0 m 87 ls []) := by
                intro hno
                refine lv_iload_n hx hb dX1_meet_87 rfl (lv_at hl 3 rfl) ?_
                refine k88 x ?_
                rcases h3 with ⟨a, c⟩ | ⟨k, a1, a2, a3, a4, a5, a6⟩
                · refine Or.inl ⟨a, fun i e g h1 h2 => ?_⟩
                  by_cases ei : i = r
                  · rw [ei] at h1 h2
                    obtain ⟨k, _, _, _, h, _⟩ := hno h1 h2
                    omega
                  · exact c i (hlow i (by omega) g) g h1 h2
                · refine Or.inr ⟨k, a1, a2, a3, a4, a5, fun i e g h1 h2 => ?_⟩
                  by_cases ei : i = r
                  · rw [ei] at h1 h2 ⊢
                    obtain ⟨k2, e1, e2, e3, e4, e5⟩ := hno h1 h2
                    rw [show k2 = k from tc_inj e2 a2 (by omega)] at e5
                    exact e5
                  · exact a6 i (hlow i (by omega) g) g h1 h2
              have k82 : tc_anc b r p0 → tc_anc b r q0 → (∀ i, i < q → b i = true → tc_anc b i p0 → tc_anc b i q0 → tc_lev b i ≤ tc_lev b r) → mu_G p l e s m below meth c yX1_meet cX1_meet 6 (some .int) rmX1_meet [.ref (A 0), .int (zI ((tc_cnt b p0 : Int))), .int (zI ((tc_cnt b q0 : Int)))] (mu_Q tc_M4 D (tc_mT d) (fun u => tc_mW A d (zI (n : Int)) bs u.1 u.2.1 u.2.2.1 u.2.2.2) AA (fun r _ => tc_Smeet n b (zI ((tc_cnt b p0 : Int))) (zI ((tc_cnt b q0 : Int))) r)) AA H locs (F0 m 82 ls []) := by
                intro hr6 hr7 hr8
                refine lv_iload hx hb dX1_meet_82 (lv_at hl 5 rfl) ?_
                refine lv_goto (tgt := 88) hx hb dX1_meet_84 (by decide) ?_
                refine k88 _ (Or.inr ⟨r, hr2, hr3, hr6, hr7, by rw [hr4], fun i e g h1 h2 => ?_⟩)
                by_cases ei : i = r
                · rw [ei]; omega
                · exact hr8 i (hlow i (by omega) g) g h1 h2
              refine lv_aload_n hx hb dX1_meet_42 rfl (lv_at hl 0 rfl) ?_
              refine lv_iload_n hx hb dX1_meet_43 rfl (lv_at hl 1 rfl) ?_
              refine lv_iload hx hb dX1_meet_44 (lv_at hl 5 rfl) ?_
              refine z_set (y := (tc_cnt b r : Int)) (by rw [hr4]) ?_
              refine ro_call (n := 2) hx hb hml hown hts (kM_under l D A d hn hok hT1 p0 r hp01 hp02 hr2 hr3) (lw_V q227 q229 qs13 q17 q230) (by decide +kernel) ⟨Nat.le_of_ble_eq_true rfl, Nat.le_of_ble_eq_true rfl⟩ ⟨rfl, rfl⟩ hK hP rfl rfl rfl hl rfl (Nat.le_of_ble_eq_true rfl) dX1_meet_46 ⟨Nat.le_of_ble_eq_true rfl, Nat.le_of_ble_eq_true rfl⟩ (fun r46 hB => ?_)
              refine t_if_eq (tgt := 87) hx hb dX1_meet_49 (by decide) hB (fun hc4 => ?_) (fun hc4 => ?_)
              · exact k87 (fun q => absurd q hc4)
              · refine lv_aload_n hx hb dX1_meet_52 rfl (lv_at hl 0 rfl) ?_
                refine lv_iload_n hx hb dX1_meet_53 rfl (lv_at hl 2 rfl) ?_
                refine lv_iload hx hb dX1_meet_54 (lv_at hl 5 rfl) ?_
                refine z_set (y := (tc_cnt b r : Int)) (by rw [hr4]) ?_
                refine ro_call (n := 2) hx hb hml hown hts (kM_under l D A d hn hok hT1 q0 r hq01 hq02 hr2 hr3) (lw_V q227 q229 qs13 q17 q230) (by decide +kernel) ⟨Nat.le_of_ble_eq_true rfl, Nat.le_of_ble_eq_true rfl⟩ ⟨rfl, rfl⟩ hK hP rfl rfl rfl hl rfl (Nat.le_of_ble_eq_true rfl) dX1_meet_56 ⟨Nat.le_of_ble_eq_true rfl, Nat.le_of_ble_eq_true rfl⟩ (fun r56 hB2 => ?_)
                refine t_if_eq (tgt := 87) hx hb dX1_meet_59 (by decide) hB2 (fun hc5 => ?_) (fun hc5 => ?_)
                · exact k87 (fun _ q => absurd q hc5)
                · refine lv_iload_n hx hb dX1_meet_62 rfl (lv_at hl 3 rfl) ?_
                  refine z_if_lt (tgt := 82) hx hb dX1_meet_63 (by decide) (⟨by omega, by omega⟩) (fun hc6 => ?_) (fun hc6 => ?_)
                  · refine k82 hc4 hc5 (fun i e g h1 h2 => ?_)
                    rcases h3 with ⟨_, c⟩ | ⟨k, _, _, _, _, a, _⟩
                    · exact (c i e g h1 h2).elim
                    · omega
                  · obtain ⟨k, a1, a2, a3, a4, a5, a6⟩ : ∃ k, k < n ∧ b k = true ∧ tc_anc b k p0 ∧ tc_anc b k q0 ∧ x = (tc_cnt b k : Int) ∧ ∀ i, i < q → b i = true → tc_anc b i p0 → tc_anc b i q0 → tc_lev b i ≤ tc_lev b k := by
                      rcases h3 with ⟨a, _⟩ | h
                      · omega
                      · exact h
                    have ck := tc_cnt_le b k
                    have lk1 := tc_lev_le b k
                    have lk2 := hok k (by omega)
                    refine lv_aload_n hx hb dX1_meet_66 rfl (lv_at hl 0 rfl) ?_
                    refine va_get (D := D) (ci := 1) (v := .ref (A 3)) (C := RX1) (T := TX1) (N := 6) hx hb hts in_X1 hown hK hP 0 rfl rfl 5 (by decide) (hts _ q171) (fun _ h9 => h9) rfl dX1_meet_67 ?_
                    refine lv_iload hx hb dX1_meet_70 (lv_at hl 5 rfl) ?_
                    refine z_iald hx hb hK hP 3 2 rfl rfl (k := tc_cnt b q) (by omega) (by decide) (v := (zI (tc_lev b r))) (hdr) dX1_meet_72 ?_
                    refine lv_aload_n hx hb dX1_meet_73 rfl (lv_at hl 0 rfl) ?_
                    refine va_get (D := D) (ci := 1) (v := .ref (A 3)) (C := RX1) (T := TX1) (N := 6) hx hb hts in_X1 hown hK hP 0 rfl rfl 5 (by decide) (hts _ q171) (fun _ h9 => h9) rfl dX1_meet_74 ?_
                    refine lv_iload_n hx hb dX1_meet_77 rfl (lv_at hl 3 rfl) ?_
                    refine z_set (y := (tc_cnt b k : Int)) (a5) ?_
                    refine z_iald hx hb hK hP 3 2 rfl rfl (k := tc_cnt b k) (by omega) (by decide) (v := (zI (tc_lev b k))) ((hT1 k a1 a2).2) dX1_meet_78 ?_
                    refine z_icmp_le (tgt := 87) hx hb dX1_meet_79 (by decide) (⟨by omega, by omega⟩) (⟨by omega, by omega⟩) (fun hc7 => ?_) (fun hc7 => ?_)
                    · exact k87 (fun _ _ => ⟨k, a1, a2, a3, a5, hc7⟩)
                    · exact k82 hc4 hc5 (fun i e g h1 h2 => by have := a6 i e g h1 h2; omega)
      refine lv_istore (lv' := [(4, .int (rb)), (0, .ref (A 0)), (1, .int (zI ((tc_cnt b p0 : Int)))), (2, .int (zI ((tc_cnt b q0 : Int)))), (3, .int (zI ((-1))))]) hx hb dX1_meet_23 hl (by decide) rfl (fun ls hl => ?_)
      refine lv_iconst (v := zI 0) hx hb dX1_meet_25 rfl ?_
      refine z_set (y := (tc_cnt b 0 : Int)) (rfl) ?_
      refine lv_istore (lv' := [(5, .int (zI ((tc_cnt b 0 : Int)))), (4, .int (rb)), (0, .ref (A 0)), (1, .int (zI ((tc_cnt b p0 : Int)))), (2, .int (zI ((tc_cnt b q0 : Int)))), (3, .int (zI ((-1))))]) hx hb dX1_meet_26 hl (by decide) rfl (fun ls hl => ?_)
      exact loop (n + 1) 0 (-1) (by omega) (by omega) (Or.inl ⟨rfl, fun i a => absurd a (Nat.not_lt_zero i)⟩) ls (lv_sub hl [2, 3, 4, 5, 1, 0] rfl)
    · refine lv_istore (lv' := [(4, .int (rb)), (0, .ref (A 0)), (1, .int (zI (z))), (2, .int (zI (y))), (3, .int (zI ((-1))))]) hx hb dX1_meet_23 hl (by decide) rfl (fun ls hl => ?_)
      refine lv_iconst (v := zI 0) hx hb dX1_meet_25 rfl ?_
      refine lv_istore (lv' := [(5, .int (zI (0))), (4, .int (rb)), (0, .ref (A 0)), (1, .int (zI (z))), (2, .int (zI (y))), (3, .int (zI ((-1))))]) hx hb dX1_meet_26 hl (by decide) rfl (fun ls hl => ?_)
      refine lv_iload hx hb dX1_meet_28 (lv_at hl 0 rfl) ?_
      refine lv_aload_n hx hb dX1_meet_30 rfl (lv_at hl 2 rfl) ?_
      refine va_get (D := D) (ci := 1) (v := .int (zI ((tc_cnt b n : Int)))) (C := RX1) (T := TX1) (N := 6) hx hb hts in_X1 hown hK hP 0 rfl rfl 2 (by decide) (hts _ q168) (fun _ h9 => h9) rfl dX1_meet_31 ?_
      refine z_icmp_ge (tgt := 95) hx hb dX1_meet_34 (by decide) (⟨by omega, by omega⟩) (⟨by omega, by omega⟩) (fun hc2 => ?_) (fun hc2 => ?_)
      · refine lv_iload_n hx hb dX1_meet_95 rfl (lv_at hl 5 rfl) ?_
        exact mu_ret (u := (zI (tc_cnt b n : Int), zI z1, up1, dp1)) hx hb hr hlocks hP hK hD hS (Or.inl ⟨hnd, rfl⟩) dX1_meet_96
      · refine lv_iload hx hb dX1_meet_37 (lv_at hl 1 rfl) ?_
        refine t_if_eq (tgt := 95) hx hb dX1_meet_39 (by decide) hN (fun hc3 => ?_) (fun hc3 => ?_)
        · refine lv_iload_n hx hb dX1_meet_95 rfl (lv_at hl 5 rfl) ?_
          exact mu_ret (u := (zI (tc_cnt b n : Int), zI z1, up1, dp1)) hx hb hr hlocks hP hK hD hS (Or.inl ⟨hnd, rfl⟩) dX1_meet_96
        · exact absurd hc3 hnd
  refine lv_aload_n hx hb dX1_meet_2 rfl (lv_at hl 1 rfl) ?_
  refine lv_iload_n hx hb dX1_meet_3 rfl (lv_at hl 2 rfl) ?_
  refine mu_call (n := 1) (wr := []) hx hb hml hown hts (kM_node l D A d hn hok hbs z hz _ _ _ _ s.heap.size) (lw_V q215 q217 qs12 q17 q218) (by decide +kernel) ⟨Nat.le_of_ble_eq_true rfl, Nat.le_of_ble_eq_true rfl⟩ ⟨rfl, rfl⟩ hK hP hD hS hA [0, 1, 2, 3] [] rfl rfl rfl (by decide) (by decide) (by decide) rfl rfl rfl hl rfl (Nat.le_of_ble_eq_true rfl) dX1_meet_4 ⟨Nat.le_of_ble_eq_true rfl, Nat.le_of_ble_eq_true rfl⟩ (fun rb1 u H locs hU hP hD hS => ?_)
  obtain ⟨ct1, la1, up1, dp1⟩ := u
  have hN1 : tc_bit (tc_nd n b (zI (z))) rb1 := hU.1
  have hU : tc_mQ n b ct1 la1 up1 dp1 := hU.2
  obtain ⟨rfl, ⟨z1, rfl, hz1⟩, hT1⟩ := hU
  have zb1 := tc_tp_bd hz1
  have hP : va_P D tc_Cl (tc_mW A d (zI (n : Int)) (bs) (zI (tc_cnt b (n) : Int)) (zI z1) (up1) (dp1)) H := hP
  have hD : va_D AA (tc_mW A d (zI (n : Int)) (bs) (zI (tc_cnt b (n) : Int)) (zI z1) (up1) (dp1)) := hD
  refine t_if_eq (tgt := 22) hx hb dX1_meet_7 (by decide) hN1 (fun hc => ?_) (fun hc => ?_)
  · refine lv_iconst (v := zI 0) hx hb dX1_meet_22 rfl ?_
    exact k23 _ z1 up1 dp1 H locs (tc_bit_0 (fun q => hc q.1)) hT1 hP hD hS ls (lv_sub hl [1, 2, 3, 0] rfl)
  · refine lv_aload_n hx hb dX1_meet_10 rfl (lv_at hl 1 rfl) ?_
    refine lv_iload_n hx hb dX1_meet_11 rfl (lv_at hl 3 rfl) ?_
    refine mu_call (n := 1) (wr := []) hx hb hml hown hts (kM_node l D A d hn hok hbs y hy _ _ _ _ H.size) (lw_V q215 q217 qs12 q17 q218) (by decide +kernel) ⟨Nat.le_of_ble_eq_true rfl, Nat.le_of_ble_eq_true rfl⟩ ⟨rfl, rfl⟩ hK hP hD hS hA [0, 1, 2, 3] [] rfl rfl rfl (by decide) (by decide) (by decide) rfl rfl rfl hl rfl (Nat.le_of_ble_eq_true rfl) dX1_meet_12 ⟨Nat.le_of_ble_eq_true rfl, Nat.le_of_ble_eq_true rfl⟩ (fun rb2 u H locs hU hP hD hS => ?_)
    obtain ⟨ct1, la1, up2, dp2⟩ := u
    have hN2 : tc_bit (tc_nd n b (zI (y))) rb2 := hU.1
    have hU : tc_mQ n b ct1 la1 up2 dp2 := hU.2
    obtain ⟨rfl, ⟨z2, rfl, hz2⟩, hT2⟩ := hU
    have zb2 := tc_tp_bd hz2
    have hP : va_P D tc_Cl (tc_mW A d (zI (n : Int)) (bs) (zI (tc_cnt b (n) : Int)) (zI z2) (up2) (dp2)) H := hP
    have hD : va_D AA (tc_mW A d (zI (n : Int)) (bs) (zI (tc_cnt b (n) : Int)) (zI z2) (up2) (dp2)) := hD
    refine t_if_eq (tgt := 22) hx hb dX1_meet_15 (by decide) hN2 (fun hc2 => ?_) (fun hc2 => ?_)
    · refine lv_iconst (v := zI 0) hx hb dX1_meet_22 rfl ?_
      exact k23 _ z2 up2 dp2 H locs (tc_bit_0 (fun q => hc2 q.2)) hT2 hP hD hS ls (lv_sub hl [1, 2, 3, 0] rfl)
    · refine lv_iconst (v := zI 1) hx hb dX1_meet_18 rfl ?_
      refine lv_goto (tgt := 23) hx hb dX1_meet_19 (by decide) ?_
      exact k23 _ z2 up2 dp2 H locs (tc_bit_1 ⟨hc, hc2⟩) hT2 hP hD hS ls (lv_sub hl [1, 2, 3, 0] rfl)
end
section
theorem tc_bs_pu {n : Nat} {b : Nat → Bool} {bs : Nat → Int32} (h : tc_bs n b bs) (x : Bool) : tc_bs (n + 1) (tc_pu b n x) (upd bs n (zI (tc_o x : Int))) := by
  intro i hi
  by_cases e : i = n
  · subst e; rw [tc_pu_n]; exact pk_us
  · rw [tc_pu_o b n x i (by omega), pk_un e]; exact h i (by omega)
abbrev rmX1_open : Room := { frames := 1, cells := 0, slots := 0, locals := 21 }
set_option maxHeartbeats 4000000 in
set_option maxRecDepth 100000 in
theorem kM_open (l : Launch) (D : va_G) (A : Nat → Nat) (d : Nat → ClassId) {n : Nat} {b : Nat → Bool} {bs : Nat → Int32} (hn : n ≤ 64) (hok : tc_ok n b) (hbs : tc_bs n b bs) (ct la : Int32) (up dp : Nat → Int32) (sz : Nat) : mu_Met l yX1_open cX1_open 1 (some .int) rmX1_open D (tc_mW A d (zI (n : Int)) bs ct la up dp) (tc_mT d) sz [.ref (A 0)] (mu_Q tc_M6 D (tc_mT d) (fun u => tc_mW A d u.1 u.2.1 u.2.2.1 u.2.2.2.1 u.2.2.2.2.1 u.2.2.2.2.2) (va_A (tc_mW A d (zI (n : Int)) bs ct la up dp) sz) (fun r u => ∃ n1 b1, u.1 = zI ((n1 : Nat) : Int) ∧ tc_bs n1 b1 u.2.1 ∧ tc_op n b n1 b1 r)) := by
  refine mu_of (by decide) (Nat.le_of_ble_eq_true rfl) ?_
  intro p e s m below meth c ls C hl
  generalize va_A (tc_mW A d (zI (n : Int)) bs ct la up dp) sz = AA at C ⊢
  obtain ⟨hx, hb, hr, hml, hown, hts, hlocks, hP, hK, hD, hA, hS⟩ := C
  have hown : s.vm.findClass RX1 = some m.cls := hown
  have hl : lv_has ls 1 [(0, .ref (A 0))] := hl
  refine lv_aload_n hx hb dX1_open_0 rfl (lv_at hl 0 rfl) ?_
  refine va_get (D := D) (ci := 1) (v := .int (zI ((n : Int)))) (C := RX1) (T := TX1) (N := 6) hx hb hts in_X1 hown hK hP 0 rfl rfl 0 (by decide) (hts _ q166) (fun _ h9 => h9) rfl dX1_open_1 ?_
  refine lv_bipush (v := zI 64) hx hb dX1_open_4 (by decide) ?_
  refine z_icmp_lt (tgt := 12) hx hb dX1_open_6 (by decide) (⟨by omega, by omega⟩) (⟨by omega, by omega⟩) (fun hc => ?_) (fun hc => ?_)
  · refine lv_aload_n hx hb dX1_open_12 rfl (lv_at hl 0 rfl) ?_
    refine va_get (D := D) (ci := 1) (v := .ref (A 1)) (C := RX1) (T := TX1) (N := 6) hx hb hts in_X1 hown hK hP 0 rfl rfl 1 (by decide) (hts _ q167) (fun _ h9 => h9) rfl dX1_open_13 ?_
    refine lv_aload_n hx hb dX1_open_16 rfl (lv_at hl 0 rfl) ?_
    refine va_get (D := D) (ci := 1) (v := .int (zI ((n : Int)))) (C := RX1) (T := TX1) (N := 6) hx hb hts in_X1 hown hK hP 0 rfl rfl 0 (by decide) (hts _ q166) (fun _ h9 => h9) rfl dX1_open_17 ?_
    refine lv_iconst (v := zI 1) hx hb dX1_open_20 rfl ?_
    refine z_zast hx hb hK hP hD hS 1 0 rfl rfl (k := n) (by omega) (by decide) (y := zI 1) (by decide) dX1_open_21 (fun H locs hP hD hS => ?_)
    have hP : va_P D tc_Cl (tc_mW A d (zI (n : Int)) (upd bs n (zI 1)) (ct) (la) (up) (dp)) H := hP
    have hD : va_D AA (tc_mW A d (zI (n : Int)) (upd bs n (zI 1)) (ct) (la) (up) (dp)) := hD
    refine lv_aload_n hx hb dX1_open_22 rfl (lv_at hl 0 rfl) ?_
    refine lv_dup hx hb dX1_open_23 rfl ?_
    refine va_get (D := D) (ci := 1) (v := .int (zI ((n : Int)))) (C := RX1) (T := TX1) (N := 6) hx hb hts in_X1 hown hK hP 0 rfl rfl 0 (by decide) (hts _ q166) (fun _ h9 => h9) rfl dX1_open_24 ?_
    refine lv_iconst (v := zI 1) hx hb dX1_open_27 rfl ?_
    refine z_iadd hx hb dX1_open_28 ?_
    refine z_set (y := ((n + 1 : Nat) : Int)) (by omega) ?_
    refine va_put (D := D) (ci := 1) (v := .int (zI (((n + 1 : Nat) : Int)))) (ty := .int) (C := RX1) (T := TX1) (N := 6) hx hb hts in_X1 tyX1 tyX1_ok nmX1 hown hK hP hD hS 0 rfl rfl 0 (by decide) (hts _ q166) (fun _ h9 => h9) rfl (by decide +kernel) rfl rfl (Nat.le_of_ble_eq_true rfl) dX1_open_29 (fun H locs hP hD hS => ?_)
    have hP : va_P D tc_Cl (tc_mW A d (zI ((n + 1 : Nat) : Int)) (upd bs n (zI 1)) (ct) (la) (up) (dp)) H := hP
    have hD : va_D AA (tc_mW A d (zI ((n + 1 : Nat) : Int)) (upd bs n (zI 1)) (ct) (la) (up) (dp)) := hD
    have hbs1 : tc_bs (n + 1) (tc_pu b n true) (upd bs n (zI 1)) := tc_bs_pu hbs true
    have hok1 := tc_ok_pu hok true (Or.inl rfl)
    refine lv_aload_n hx hb dX1_open_32 rfl (lv_at hl 0 rfl) ?_
    refine mu_callv (n := 0) (wr := []) hx hb hml hown hts (kM_work l D A d (show n + 1 ≤ 64 by omega) hok1 hbs1 _ _ _ _ H.size) (lw_V q191 q193 qs11 q17 q194) (by decide +kernel) ⟨Nat.le_of_ble_eq_true rfl, Nat.le_of_ble_eq_true rfl⟩ ⟨rfl, rfl⟩ hK hP hD hS hA [0, 1, 2, 3] [] rfl rfl rfl (by decide) (by decide) (by decide) rfl rfl rfl hl rfl (Nat.le_of_ble_eq_true rfl) dX1_open_33 ⟨Nat.le_of_ble_eq_true rfl, Nat.le_of_ble_eq_true rfl⟩ (fun u H locs hU hP hD hS => ?_)
    obtain ⟨ct1, la1, up1, dp1⟩ := u
    have hU : tc_mQ (n + 1) ((tc_pu b n true)) ct1 la1 up1 dp1 := hU
    obtain ⟨rfl, ⟨z1, rfl, hz1⟩, hT1⟩ := hU
    have zb1 := tc_tp_bd hz1
    have hP : va_P D tc_Cl (tc_mW A d (zI ((n + 1 : Nat) : Int)) (upd bs n (zI 1)) (zI (tc_cnt (tc_pu b n true) (n + 1) : Int)) (zI z1) (up1) (dp1)) H := hP
    have hD : va_D AA (tc_mW A d (zI ((n + 1 : Nat) : Int)) (upd bs n (zI 1)) (zI (tc_cnt (tc_pu b n true) (n + 1) : Int)) (zI z1) (up1) (dp1)) := hD
    refine lv_aload_n hx hb dX1_open_36 rfl (lv_at hl 0 rfl) ?_
    refine va_get (D := D) (ci := 1) (v := .int (zI ((tc_cnt (tc_pu b n true) (n + 1) : Int)))) (C := RX1) (T := TX1) (N := 6) hx hb hts in_X1 hown hK hP 0 rfl rfl 2 (by decide) (hts _ q168) (fun _ h9 => h9) rfl dX1_open_37 ?_
    refine lv_iconst (v := zI 1) hx hb dX1_open_40 rfl ?_
    refine z_isub hx hb dX1_open_41 ?_
    refine z_set (y := (tc_cnt b n : Int)) (by rw [tc_cnt_s, tc_pu_n, tc_pu_cnt b n true n (Nat.le_refl n), tc_o_t]; omega) ?_
    exact mu_ret (u := (zI ((n + 1 : Nat) : Int), upd bs n (zI 1), zI (tc_cnt (tc_pu b n true) (n + 1) : Int), zI z1, up1, dp1)) hx hb hr hlocks hP hK hD hS (⟨n + 1, tc_pu b n true, rfl, hbs1, Or.inr ⟨by omega, rfl, rfl, rfl⟩⟩) dX1_open_42
  · refine lv_bipush (v := zI (-2)) hx hb dX1_open_9 (by decide) ?_
    exact mu_ret (u := (zI (n : Int), bs, ct, la, up, dp)) hx hb hr hlocks hP hK hD hS (⟨n, b, rfl, hbs, Or.inl ⟨by omega, rfl, rfl, rfl⟩⟩) dX1_open_11
abbrev rmX1_close : Room := { frames := 1, cells := 0, slots := 0, locals := 21 }
set_option maxHeartbeats 4000000 in
set_option maxRecDepth 100000 in
theorem kM_close (l : Launch) (D : va_G) (A : Nat → Nat) (d : Nat → ClassId) {n : Nat} {b : Nat → Bool} {bs : Nat → Int32} (hn : n ≤ 64) (hok : tc_ok n b) (hbs : tc_bs n b bs) (ct la : Int32) (up dp : Nat → Int32) (sz : Nat) : mu_Met l yX1_close cX1_close 1 (some .int) rmX1_close D (tc_mW A d (zI (n : Int)) bs ct la up dp) (tc_mT d) sz [.ref (A 0)] (mu_Q tc_M6 D (tc_mT d) (fun u => tc_mW A d u.1 u.2.1 u.2.2.1 u.2.2.2.1 u.2.2.2.2.1 u.2.2.2.2.2) (va_A (tc_mW A d (zI (n : Int)) bs ct la up dp) sz) (fun r u => ∃ n1 b1, u.1 = zI ((n1 : Nat) : Int) ∧ tc_bs n1 b1 u.2.1 ∧ tc_cl n b n1 b1 r)) := by
  refine mu_of (by decide) (Nat.le_of_ble_eq_true rfl) ?_
  intro p e s m below meth c ls C hl
  generalize va_A (tc_mW A d (zI (n : Int)) bs ct la up dp) sz = AA at C ⊢
  obtain ⟨hx, hb, hr, hml, hown, hts, hlocks, hP, hK, hD, hA, hS⟩ := C
  have hown : s.vm.findClass RX1 = some m.cls := hown
  have hl : lv_has ls 1 [(0, .ref (A 0))] := hl
  refine lv_aload_n hx hb dX1_close_0 rfl (lv_at hl 0 rfl) ?_
  refine mu_callv (n := 0) (wr := []) hx hb hml hown hts (kM_work l D A d hn hok hbs _ _ _ _ s.heap.size) (lw_V q191 q193 qs11 q17 q194) (by decide +kernel) ⟨Nat.le_of_ble_eq_true rfl, Nat.le_of_ble_eq_true rfl⟩ ⟨rfl, rfl⟩ hK hP hD hS hA [0, 1, 2, 3] [] rfl rfl rfl (by decide) (by decide) (by decide) rfl rfl rfl hl rfl (Nat.le_of_ble_eq_true rfl) dX1_close_1 ⟨Nat.le_of_ble_eq_true rfl, Nat.le_of_ble_eq_true rfl⟩ (fun u H locs hU hP hD hS => ?_)
  obtain ⟨ct1, la1, up1, dp1⟩ := u
  have hU : tc_mQ (n) (b) ct1 la1 up1 dp1 := hU
  obtain ⟨rfl, ⟨z1, rfl, hz1⟩, hT1⟩ := hU
  have zb1 := tc_tp_bd hz1
  have hP : va_P D tc_Cl (tc_mW A d (zI (n : Int)) (bs) (zI (tc_cnt b (n) : Int)) (zI z1) (up1) (dp1)) H := hP
  have hD : va_D AA (tc_mW A d (zI (n : Int)) (bs) (zI (tc_cnt b (n) : Int)) (zI z1) (up1) (dp1)) := hD
  refine lv_aload_n hx hb dX1_close_4 rfl (lv_at hl 0 rfl) ?_
  refine va_get (D := D) (ci := 1) (v := .int (zI (z1))) (C := RX1) (T := TX1) (N := 6) hx hb hts in_X1 hown hK hP 0 rfl rfl 3 (by decide) (hts _ q169) (fun _ h9 => h9) rfl dX1_close_5 ?_
  refine z_if_ge (tgt := 13) hx hb dX1_close_8 (by decide) (⟨by omega, by omega⟩) (fun hc => ?_) (fun hc => ?_)
  · have hl0 : tc_lev b n ≠ 0 := by
      rcases hz1 with ⟨_, a⟩ | ⟨p, a, _⟩
      · omega
      · have := hok p (by have := a.1; omega); have := a.2.2.1; omega
    refine lv_aload_n hx hb dX1_close_13 rfl (lv_at hl 0 rfl) ?_
    refine va_get (D := D) (ci := 1) (v := .int (zI ((n : Int)))) (C := RX1) (T := TX1) (N := 6) hx hb hts in_X1 hown hK hP 0 rfl rfl 0 (by decide) (hts _ q166) (fun _ h9 => h9) rfl dX1_close_14 ?_
    refine lv_bipush (v := zI 64) hx hb dX1_close_17 (by decide) ?_
    refine z_icmp_lt (tgt := 25) hx hb dX1_close_19 (by decide) (⟨by omega, by omega⟩) (⟨by omega, by omega⟩) (fun hc2 => ?_) (fun hc2 => ?_)
    · refine lv_aload_n hx hb dX1_close_25 rfl (lv_at hl 0 rfl) ?_
      refine va_get (D := D) (ci := 1) (v := .ref (A 1)) (C := RX1) (T := TX1) (N := 6) hx hb hts in_X1 hown hK hP 0 rfl rfl 1 (by decide) (hts _ q167) (fun _ h9 => h9) rfl dX1_close_26 ?_
      refine lv_aload_n hx hb dX1_close_29 rfl (lv_at hl 0 rfl) ?_
      refine va_get (D := D) (ci := 1) (v := .int (zI ((n : Int)))) (C := RX1) (T := TX1) (N := 6) hx hb hts in_X1 hown hK hP 0 rfl rfl 0 (by decide) (hts _ q166) (fun _ h9 => h9) rfl dX1_close_30 ?_
      refine lv_iconst (v := zI 0) hx hb dX1_close_33 rfl ?_
      refine z_zast hx hb hK hP hD hS 1 0 rfl rfl (k := n) (by omega) (by decide) (y := zI 0) (by decide) dX1_close_34 (fun H locs hP hD hS => ?_)
      have hP : va_P D tc_Cl (tc_mW A d (zI (n : Int)) (upd bs n (zI 0)) (zI (tc_cnt b (n) : Int)) (zI z1) (up1) (dp1)) H := hP
      have hD : va_D AA (tc_mW A d (zI (n : Int)) (upd bs n (zI 0)) (zI (tc_cnt b (n) : Int)) (zI z1) (up1) (dp1)) := hD
      refine lv_aload_n hx hb dX1_close_35 rfl (lv_at hl 0 rfl) ?_
      refine lv_dup hx hb dX1_close_36 rfl ?_
      refine va_get (D := D) (ci := 1) (v := .int (zI ((n : Int)))) (C := RX1) (T := TX1) (N := 6) hx hb hts in_X1 hown hK hP 0 rfl rfl 0 (by decide) (hts _ q166) (fun _ h9 => h9) rfl dX1_close_37 ?_
      refine lv_iconst (v := zI 1) hx hb dX1_close_40 rfl ?_
      refine z_iadd hx hb dX1_close_41 ?_
      refine z_set (y := ((n + 1 : Nat) : Int)) (by omega) ?_
      refine va_put (D := D) (ci := 1) (v := .int (zI (((n + 1 : Nat) : Int)))) (ty := .int) (C := RX1) (T := TX1) (N := 6) hx hb hts in_X1 tyX1 tyX1_ok nmX1 hown hK hP hD hS 0 rfl rfl 0 (by decide) (hts _ q166) (fun _ h9 => h9) rfl (by decide +kernel) rfl rfl (Nat.le_of_ble_eq_true rfl) dX1_close_42 (fun H locs hP hD hS => ?_)
      have hP : va_P D tc_Cl (tc_mW A d (zI ((n + 1 : Nat) : Int)) (upd bs n (zI 0)) (zI (tc_cnt b (n) : Int)) (zI z1) (up1) (dp1)) H := hP
      have hD : va_D AA (tc_mW A d (zI ((n + 1 : Nat) : Int)) (upd bs n (zI 0)) (zI (tc_cnt b (n) : Int)) (zI z1) (up1) (dp1)) := hD
      have hbs1 : tc_bs (n + 1) (tc_pu b n false) (upd bs n (zI 0)) := tc_bs_pu hbs false
      refine lv_aload_n hx hb dX1_close_45 rfl (lv_at hl 0 rfl) ?_
      refine va_get (D := D) (ci := 1) (v := .int (zI (z1))) (C := RX1) (T := TX1) (N := 6) hx hb hts in_X1 hown hK hP 0 rfl rfl 3 (by decide) (hts _ q169) (fun _ h9 => h9) rfl dX1_close_46 ?_
      exact mu_ret (u := (zI ((n + 1 : Nat) : Int), upd bs n (zI 0), zI (tc_cnt b (n) : Int), zI z1, up1, dp1)) hx hb hr hlocks hP hK hD hS (⟨n + 1, tc_pu b n false, rfl, hbs1, Or.inr (Or.inr ⟨hl0, by omega, rfl, rfl, z1, hz1, rfl⟩)⟩) dX1_close_49
    · refine lv_bipush (v := zI (-2)) hx hb dX1_close_22 (by decide) ?_
      exact mu_ret (u := (zI (n : Int), bs, zI (tc_cnt b (n) : Int), zI z1, up1, dp1)) hx hb hr hlocks hP hK hD hS (⟨n, b, rfl, hbs, Or.inr (Or.inl ⟨hl0, by omega, rfl, rfl, rfl⟩)⟩) dX1_close_24
  · refine lv_iconst (v := zI (-1)) hx hb dX1_close_11 rfl ?_
    exact mu_ret (u := (zI (n : Int), bs, zI (tc_cnt b (n) : Int), zI z1, up1, dp1)) hx hb hr hlocks hP hK hD hS (⟨n, b, rfl, hbs, Or.inl ⟨by rcases hz1 with ⟨a, _⟩ | ⟨p, _, a⟩ <;> omega, rfl, rfl, rfl⟩⟩) dX1_close_12
abbrev rmX1_undo : Room := { frames := 0, cells := 0, slots := 0, locals := 0 }
set_option maxHeartbeats 4000000 in
set_option maxRecDepth 100000 in
theorem kM_undo (l : Launch) (D : va_G) (A : Nat → Nat) (d : Nat → ClassId) {n : Nat} {b : Nat → Bool} {bs : Nat → Int32} (hn : n ≤ 64) (hok : tc_ok n b) (hbs : tc_bs n b bs) (ct la : Int32) (up dp : Nat → Int32) (sz : Nat) : mu_Met l yX1_undo cX1_undo 1 (some .int) rmX1_undo D (tc_mW A d (zI (n : Int)) bs ct la up dp) (tc_mT d) sz [.ref (A 0)] (mu_Q tc_M6 D (tc_mT d) (fun u => tc_mW A d u.1 u.2.1 u.2.2.1 u.2.2.2.1 u.2.2.2.2.1 u.2.2.2.2.2) (va_A (tc_mW A d (zI (n : Int)) bs ct la up dp) sz) (fun r u => ∃ n1 b1, u.1 = zI ((n1 : Nat) : Int) ∧ tc_bs n1 b1 u.2.1 ∧ tc_un n b n1 b1 r)) := by
  refine mu_of (by decide) (Nat.le_of_ble_eq_true rfl) ?_
  intro p e s m below meth c ls C hl
  generalize va_A (tc_mW A d (zI (n : Int)) bs ct la up dp) sz = AA at C ⊢
  obtain ⟨hx, hb, hr, hml, hown, hts, hlocks, hP, hK, hD, hA, hS⟩ := C
  have hown : s.vm.findClass RX1 = some m.cls := hown
  have hl : lv_has ls 1 [(0, .ref (A 0))] := hl
  refine lv_aload_n hx hb dX1_undo_0 rfl (lv_at hl 0 rfl) ?_
  refine va_get (D := D) (ci := 1) (v := .int (zI ((n : Int)))) (C := RX1) (T := TX1) (N := 6) hx hb hts in_X1 hown hK hP 0 rfl rfl 0 (by decide) (hts _ q166) (fun _ h9 => h9) rfl dX1_undo_1 ?_
  refine z_if_ne (tgt := 9) hx hb dX1_undo_4 (by decide) (⟨by omega, by omega⟩) (fun hc => ?_) (fun hc => ?_)
  · refine lv_aload_n hx hb dX1_undo_9 rfl (lv_at hl 0 rfl) ?_
    refine lv_dup hx hb dX1_undo_10 rfl ?_
    refine va_get (D := D) (ci := 1) (v := .int (zI ((n : Int)))) (C := RX1) (T := TX1) (N := 6) hx hb hts in_X1 hown hK hP 0 rfl rfl 0 (by decide) (hts _ q166) (fun _ h9 => h9) rfl dX1_undo_11 ?_
    refine lv_iconst (v := zI 1) hx hb dX1_undo_14 rfl ?_
    refine z_isub hx hb dX1_undo_15 ?_
    refine z_set (y := ((n - 1 : Nat) : Int)) (by omega) ?_
    refine va_put (D := D) (ci := 1) (v := .int (zI (((n - 1 : Nat) : Int)))) (ty := .int) (C := RX1) (T := TX1) (N := 6) hx hb hts in_X1 tyX1 tyX1_ok nmX1 hown hK hP hD hS 0 rfl rfl 0 (by decide) (hts _ q166) (fun _ h9 => h9) rfl (by decide +kernel) rfl rfl (Nat.le_of_ble_eq_true rfl) dX1_undo_16 (fun H locs hP hD hS => ?_)
    have hP : va_P D tc_Cl (tc_mW A d (zI ((n - 1 : Nat) : Int)) (bs) (ct) (la) (up) (dp)) H := hP
    have hD : va_D AA (tc_mW A d (zI ((n - 1 : Nat) : Int)) (bs) (ct) (la) (up) (dp)) := hD
    refine lv_aload_n hx hb dX1_undo_19 rfl (lv_at hl 0 rfl) ?_
    refine va_get (D := D) (ci := 1) (v := .int (zI (((n - 1 : Nat) : Int)))) (C := RX1) (T := TX1) (N := 6) hx hb hts in_X1 hown hK hP 0 rfl rfl 0 (by decide) (hts _ q166) (fun _ h9 => h9) rfl dX1_undo_20 ?_
    exact mu_ret (u := (zI ((n - 1 : Nat) : Int), bs, ct, la, up, dp)) hx hb hr hlocks hP hK hD hS (⟨n - 1, b, rfl, fun i hi => hbs i (by omega), Or.inr ⟨by omega, rfl, rfl, rfl⟩⟩) dX1_undo_23
  · refine lv_iconst (v := zI (-1)) hx hb dX1_undo_7 rfl ?_
    exact mu_ret (u := (zI (n : Int), bs, ct, la, up, dp)) hx hb hr hlocks hP hK hD hS (⟨n, b, rfl, hbs, Or.inl ⟨by omega, rfl, rfl, rfl⟩⟩) dX1_undo_8
abbrev rmX1_init : Room := { frames := 1, cells := 3, slots := 192, locals := 12 }
set_option maxHeartbeats 4000000 in
set_option maxRecDepth 100000 in
theorem kM_init (l : Launch) (D : va_G) (h0 sz : Nat) : Met l yX1_init (ws_ yX1_init cX1_init 1 none) rmX1_init (va_Pc [.ref h0] (mu_B D [(h0, .inr (1, [.int 0, .null, .int 0, .int 0, .null, .null]))] [] sz)) (va_Qv (fun u : (Nat → Nat) × (Nat → ClassId) => u.1 0 = h0) (fun u t => va_P D tc_Cl (tc_mW u.1 u.2 0 (fun _ => 0) 0 0 (fun _ => 0) (fun _ => 0)) t.heap ∧ va_K D tc_Cl (tc_mT u.2) t ∧ va_D (va_A [(h0, .inr (1, [.int 0, .null, .int 0, .int 0, .null, .null]))] sz) (tc_mW u.1 u.2 0 (fun _ => 0) 0 0 (fun _ => 0) (fun _ => 0))) (va_A [(h0, .inr (1, [.int 0, .null, .int 0, .int 0, .null, .null]))] sz)) 3 192 (va_A [(h0, .inr (1, [.int 0, .null, .int 0, .int 0, .null, .null]))] sz) := by
  refine Met.ofW (cc := cX1_init) (maxL := 1) (ret := none) (by decide) rfl ?_
  intro p e s m args below meth c s₁ B hml hv
  obtain ⟨rfl, hsz, hP, hK, hD0⟩ := hv
  have hx := B.exec
  have hb := B.bytes
  have hr := B.returns
  have hts := atoms_spec (ws := ws_ yX1_init cX1_init 1 none) B.pre
  have hts : ∀ w ∈ lw_all, w.before _ s = true := fun w h => hts w (List.mem_cons_of_mem _ h)
  have hown : s.vm.findClass RX1 = some m.cls := findClass_of_methodNamed B.named
  have hlocks := B.notSynchronized
  have hD := hD0.self (sz := sz)
  generalize hAe : va_A [(h0, .inr (1, [.int 0, .null, .int 0, .int 0, .null, .null]))] sz = A at hD ⊢
  have hA : ∀ q : Nat, s.heap.size ≤ q → A q := fun q h => by rw [← hAe]; exact Or.inr (by rw [← hsz]; exact h)
  have hS : va_S A s.heap s.heap [] := va_S.rf
  have hl := lv_entry ([.ref h0]) (n := 1) (Nat.le_of_ble_eq_true rfl)
  rw [lg_entry_eq]
  generalize (lg_sl ([.ref h0]) ++ List.replicate (1 - (lg_sl ([.ref h0])).length) Slot.unset).toArray = ls at hl ⊢
  have hl : lv_has ls 1 [(0, .ref h0)] := hl
  refine lv_aload_n hx hb dX1_init_0 rfl (lv_at hl 0 rfl) ?_
  refine W.objInit hx hb hown (hts _ q165) (hts _ q24) (hts _ q25) rfl (by rw [hml]; exact hl.1) rfl dX1_init_1 (Nat.le_of_ble_eq_true rfl) (Nat.le_of_ble_eq_true rfl) ?_
  refine W.eq (g2 := F0 m 4 ls []) rfl ?_
  refine lv_aload_n hx hb dX1_init_4 rfl (lv_at hl 0 rfl) ?_
  refine lv_bipush (v := 64) hx hb dX1_init_5 (by decide) ?_
  refine va_newa (atype := .boolean) (ty := .boolean) (N' := 64) (a0 := (64, .inl (fun _ => 0))) hx hb (hts _ q185) rfl hK hP hD hS hA (fun cA => rfl) (by decide) (by decide) (by decide) (Nat.le_of_ble_eq_true rfl) (Nat.le_of_ble_eq_true rfl) dX1_init_7 (fun a0 d0 H hK hP hD hS => ?_)
  have hP : va_P D tc_Cl [(h0, .inr (1, [.int 0, .null, .int 0, .int 0, .null, .null])), (a0, .inl (d0, 64, .inl (fun _ => 0)))] H := hP
  have hD : va_D A [(h0, .inr (1, [.int 0, .null, .int 0, .int 0, .null, .null])), (a0, .inl (d0, 64, .inl (fun _ => 0)))] := hD
  have hK : va_K D tc_Cl [(d0, .boolean)] s := hK
  refine va_put (D := D) (ci := 1) (v := .ref a0) (ty := .array .boolean) (C := RX1) (T := TX1) (N := 6) hx hb hts in_X1 tyX1 tyX1_ok nmX1 hown hK hP hD hS 0 rfl rfl 1 (by decide) (hts _ q167) (fun _ h9 => h9) rfl (by decide +kernel) rfl rfl (Nat.le_of_ble_eq_true rfl) dX1_init_9 (fun H locs hP hD hS => ?_)
  have hP : va_P D tc_Cl [(h0, .inr (1, [.int 0, .ref a0, .int 0, .int 0, .null, .null])), (a0, .inl (d0, 64, .inl (fun _ => 0)))] H := hP
  have hD : va_D A [(h0, .inr (1, [.int 0, .ref a0, .int 0, .int 0, .null, .null])), (a0, .inl (d0, 64, .inl (fun _ => 0)))] := hD
  refine lv_aload_n hx hb dX1_init_12 rfl (lv_at hl 0 rfl) ?_
  refine lv_bipush (v := 64) hx hb dX1_init_13 (by decide) ?_
  refine va_newa (atype := .int) (ty := .int) (N' := 64) (a0 := (64, .inl (fun _ => 0))) hx hb (hts _ q186) rfl hK hP hD hS hA (fun cA => rfl) (by decide) (by decide) (by decide) (Nat.le_of_ble_eq_true rfl) (Nat.le_of_ble_eq_true rfl) dX1_init_15 (fun a1 d1 H hK hP hD hS => ?_)
  have hP : va_P D tc_Cl [(h0, .inr (1, [.int 0, .ref a0, .int 0, .int 0, .null, .null])), (a0, .inl (d0, 64, .inl (fun _ => 0))), (a1, .inl (d1, 64, .inl (fun _ => 0)))] H := hP
  have hD : va_D A [(h0, .inr (1, [.int 0, .ref a0, .int 0, .int 0, .null, .null])), (a0, .inl (d0, 64, .inl (fun _ => 0))), (a1, .inl (d1, 64, .inl (fun _ => 0)))] := hD
  have hK : va_K D tc_Cl [(d0, .boolean), (d1, .int)] s := hK
  refine va_put (D := D) (ci := 1) (v := .ref a1) (ty := .array .int) (C := RX1) (T := TX1) (N := 6) hx hb hts in_X1 tyX1 tyX1_ok nmX1 hown hK hP hD hS 0 rfl rfl 4 (by decide) (hts _ q170) (fun _ h9 => h9) rfl (by decide +kernel) rfl rfl (Nat.le_of_ble_eq_true rfl) dX1_init_17 (fun H locs hP hD hS => ?_)
  have hP : va_P D tc_Cl [(h0, .inr (1, [.int 0, .ref a0, .int 0, .int 0, .ref a1, .null])), (a0, .inl (d0, 64, .inl (fun _ => 0))), (a1, .inl (d1, 64, .inl (fun _ => 0)))] H := hP
  have hD : va_D A [(h0, .inr (1, [.int 0, .ref a0, .int 0, .int 0, .ref a1, .null])), (a0, .inl (d0, 64, .inl (fun _ => 0))), (a1, .inl (d1, 64, .inl (fun _ => 0)))] := hD
  refine lv_aload_n hx hb dX1_init_20 rfl (lv_at hl 0 rfl) ?_
  refine lv_bipush (v := 64) hx hb dX1_init_21 (by decide) ?_
  refine va_newa (atype := .int) (ty := .int) (N' := 64) (a0 := (64, .inl (fun _ => 0))) hx hb (hts _ q186) rfl hK hP hD hS hA (fun cA => rfl) (by decide) (by decide) (by decide) (Nat.le_of_ble_eq_true rfl) (Nat.le_of_ble_eq_true rfl) dX1_init_23 (fun a2 d2 H hK hP hD hS => ?_)
  have hP : va_P D tc_Cl [(h0, .inr (1, [.int 0, .ref a0, .int 0, .int 0, .ref a1, .null])), (a0, .inl (d0, 64, .inl (fun _ => 0))), (a1, .inl (d1, 64, .inl (fun _ => 0))), (a2, .inl (d2, 64, .inl (fun _ => 0)))] H := hP
  have hD : va_D A [(h0, .inr (1, [.int 0, .ref a0, .int 0, .int 0, .ref a1, .null])), (a0, .inl (d0, 64, .inl (fun _ => 0))), (a1, .inl (d1, 64, .inl (fun _ => 0))), (a2, .inl (d2, 64, .inl (fun _ => 0)))] := hD
  have hK : va_K D tc_Cl [(d0, .boolean), (d1, .int), (d2, .int)] s := hK
  refine va_put (D := D) (ci := 1) (v := .ref a2) (ty := .array .int) (C := RX1) (T := TX1) (N := 6) hx hb hts in_X1 tyX1 tyX1_ok nmX1 hown hK hP hD hS 0 rfl rfl 5 (by decide) (hts _ q171) (fun _ h9 => h9) rfl (by decide +kernel) rfl rfl (Nat.le_of_ble_eq_true rfl) dX1_init_25 (fun H locs hP hD hS => ?_)
  have hP : va_P D tc_Cl [(h0, .inr (1, [.int 0, .ref a0, .int 0, .int 0, .ref a1, .ref a2])), (a0, .inl (d0, 64, .inl (fun _ => 0))), (a1, .inl (d1, 64, .inl (fun _ => 0))), (a2, .inl (d2, 64, .inl (fun _ => 0)))] H := hP
  have hD : va_D A [(h0, .inr (1, [.int 0, .ref a0, .int 0, .int 0, .ref a1, .ref a2])), (a0, .inl (d0, 64, .inl (fun _ => 0))), (a1, .inl (d1, 64, .inl (fun _ => 0))), (a2, .inl (d2, 64, .inl (fun _ => 0)))] := hD
  refine W.widen (k := 3) (n := 192) (Nat.le_of_ble_eq_true rfl) (Nat.le_of_ble_eq_true rfl) ?_
  exact W.vret hx hb hr (fun t ht hW => ⟨⟨(tc_A4 h0 a0 a1 a2, tc_A4 d0 d1 d2 d2), rfl, rfl, by rw [ht]; exact hP, va_K.moved hW.alike hK, hD⟩, hS.F ht⟩) hS.2.2 dX1_init_28
end
section
/-! THE CLAIM OUT OF ONE WALK OF THE LAW'S BODY. Your part is whole_start (and what it stands on); all else here is the same for every law, but numbers. -/
def R_law : String := "TreeCodesLaw"
def lw_P (b : Addr) (xs : List Int32) (args : Array Value) (s : State) : Prop := args = #[.ref b] ∧ s.IntsAt b xs ∧ xs.length ≤ 192 ∧ (Jvm.Cond.and given_1 narrow_1).before args s = true
def lw_Q (_ : Array Value) (s : State) (o : Outcome) (t : State) : Prop := o = .returned (some (.int 1)) ∧ Framed s o t [] 600000 7290000
def lw_Z (below : List Frame) (a : Array Value) (s : State) : State → Prop := fun t => ∃ o, t.status = .running ∧ Ended t below o ∧ lw_Q a s o t
/-- the law's own end, with 1 on the stack, nothing written that was there before, its room as the claim has it -/
theorem lw_ret {p : Program} {l : Launch} {e : Env} {s : State} {m : MethodId} {below : List Frame} {meth : Method} {c : Code} {b : Nat} (hx : p.tables.exec = Jvm.exec) (hb : c.code = code) (hr : meth.sig.returnType = ret) (hlocks : meth.locks = false) {pc : Nat} {H : Heap} {ls : Array Slot} (hdg : decode code pc = .ok (.ireturn, 1)) : W p l e room_1 s m #[Value.ref b] below meth c H [] 600000 7290000 (lw_Z below #[Value.ref b] s) (F0 m pc ls [.int 1]) := by
  intro T hT X
  obtain ⟨fs, hret, hrun, hended, hW, hframe⟩ := X.leave (v := some (.int 1)) (hlocks := hlocks) (fun h => by rw [hr] at h; cases h)
  have hmeth' : T.vm.method? m = some meth := X.method'
  refine ⟨T.setFrames fs, ?_, .returned (some (.int 1)), hrun, hended, rfl, ⟨_, rfl⟩, hW, hframe⟩
  jvm_step X.here [X.here.top, hx, hb, hdg, hmeth', hr, ret, narrow_b1]
  (try refine ⟨rfl, ?_⟩); (try refine ⟨rfl, ?_⟩)
  first | (intro acts; rw [hret _ acts rfl rfl rfl]) | rw [hret _ _ rfl rfl rfl]
  exact Steps.refl _
/-- what holds at the law's entry: the machine, the code, the tables' words (any of lw_tbl by 'hts w (by decide +kernel)'), the script of L ints xs at the cell b, what the Statement gives of the start (any of its parts by flat_of_before) -/
def lw_At (p : Program) (s : State) (m : MethodId) (meth : Method) (c : Code) (b L : Nat) (xs : Nat → Int32) : Prop :=
  p.tables.exec = Jvm.exec ∧ c.code = code ∧ meth.sig.returnType = ret ∧ c.maxLocals = 4 ∧ s.vm.findClass R_law = some m.cls ∧ (∀ w ∈ lw_tbl, w.before #[Value.ref b] s = true) ∧ va_X b L xs s s.heap ∧ b < s.heap.size ∧ meth.locks = false ∧ (Jvm.Cond.and given_1 narrow_1).before #[Value.ref b] s = true

set_option maxHeartbeats 4000000 in
set_option maxRecDepth 100000 in
/-- THE LAW'S LOOP: at its head both sides stand for the same row of brackets -/
theorem law_loop {p : Program} {l : Launch} {e : Env} {s : State} {m : MethodId} {below : List Frame} {meth : Method} {c : Code} {D : va_G} {Ax Am : Nat → Nat} {dx dm : Nat → ClassId} {b0 L : Nat} {xs : Nat → Int32} (hL : L ≤ 192) (C0 : lw_At p s m meth c b0 L xs) (hKx : va_K D tc_Cl (tc_xT dx) s) (hKm : va_K D tc_Cl (tc_mT dm) s) : ∀ (f i : Nat), L + 1 ≤ i + f → i ≤ L → ∀ (n : Nat) (bb : Nat → Bool) (w : Int64) (F : Nat → Nat → Int32) (bs : Nat → Int32) (ct la : Int32) (up dp : Nat → Int32) (H : Heap) (locs : List Loc), tc_xI n bb w F → tc_bs n bb bs → va_P D tc_Cl (tc_xW Ax w (zI ((n : Int))) dx F ++ tc_mW Am dm (zI ((n : Int))) bs ct la up dp) H → va_D (fun q : Nat => s.heap.size ≤ q) (tc_xW Ax w (zI ((n : Int))) dx F ++ tc_mW Am dm (zI ((n : Int))) bs ct la up dp) → va_S (fun q : Nat => s.heap.size ≤ q) s.heap H locs → ∀ (ls : Array Slot), lv_has ls 4 [(0, .ref (b0)), (1, .ref (Ax 0)), (2, .ref (Am 0)), (3, .int (zI ((i : Int))))] → W p l e room_1 s m #[Value.ref b0] below meth c H locs 9 236 (lw_Z below #[Value.ref b0] s) (F0 m 18 ls []) := by
  obtain ⟨hx, hb, hr, hml, hown, hts0, hX, hbl, hlocks, hgv⟩ := C0
  have hts : ∀ w ∈ lw_all, w.before #[Value.ref b0] s = true := fun w h => hts0 w (lw_all_tbl h)
  have hA : ∀ q : Nat, s.heap.size ≤ q → (fun q : Nat => s.heap.size ≤ q) q := fun _ h => h
  have hbA : ¬ (fun q : Nat => s.heap.size ≤ q) b0 := Nat.not_le.mpr hbl
  intro f
  induction f with
  | zero => intro i h1 h2; exact absurd h1 (by omega)
  | succ f ih =>
    intro i h1 h2 n bb w F bs ct la up dp H locs hI hbs hP hD hS ls hl
    obtain ⟨hn, hok, hw, hB⟩ := id hI
    refine lv_iload_n hx hb dL_law_18 rfl (lv_at hl 3 rfl) ?_
    refine lv_aload_n hx hb dL_law_19 rfl (lv_at hl 0 rfl) ?_
    refine va_slen hx hb hX hbl hbA hS dL_law_20 ?_
    refine z_seti (y := zI (L : Int)) (zI_n L) ?_
    refine lv_iconst (v := zI 3) hx hb dL_law_21 rfl ?_
    refine z_isub hx hb dL_law_22 ?_
    refine z_icmp_gt (tgt := 466) hx hb dL_law_23 (by decide) (⟨by omega, by omega⟩) (⟨by omega, by omega⟩) (fun hc => ?_) (fun hc => ?_)
    · refine lv_iconst (v := 1) hx hb dL_law_466 (by decide) ?_
      refine va_forget (fun q hq => hS.2.2 q hq) ?_
      refine W.widen (k := 600000) (n := 7290000) (Nat.le_of_ble_eq_true rfl) (Nat.le_of_ble_eq_true rfl) ?_
      exact lw_ret hx hb hr hlocks dL_law_467
    · have k460 : ∀ (n : Nat) (bb : Nat → Bool) (w : Int64) (F : Nat → Nat → Int32) (bs : Nat → Int32) (ct la : Int32) (up dp : Nat → Int32) (H : Heap) (locs : List Loc), tc_xI n bb w F → tc_bs n bb bs → va_P D tc_Cl (tc_xW Ax w (zI ((n : Int))) dx F ++ tc_mW Am dm (zI ((n : Int))) bs ct la up dp) H → va_D (fun q : Nat => s.heap.size ≤ q) (tc_xW Ax w (zI ((n : Int))) dx F ++ tc_mW Am dm (zI ((n : Int))) bs ct la up dp) → va_S (fun q : Nat => s.heap.size ≤ q) s.heap H locs → ∀ (ls : Array Slot), lv_has ls 4 [(0, .ref (b0)), (1, .ref (Ax 0)), (2, .ref (Am 0)), (3, .int (zI ((i : Int))))] → W p l e room_1 s m #[Value.ref b0] below meth c H locs 9 236 (lw_Z below #[Value.ref b0] s) (F0 m 460 ls []) := by
        intro n bb w F bs ct la up dp H locs hI hbs hP hD hS ls hl
        refine lv_iinc (v := zI (((i + 3 : Nat) : Int))) (lv' := [(3, .int (zI (((i + 3 : Nat) : Int)))), (0, .ref (b0)), (1, .ref (Ax 0)), (2, .ref (Am 0))]) hx hb dL_law_460 hl (k := 3) rfl (zI_inc (by omega)) (by decide) rfl (fun ls hl => ?_)
        refine lv_goto (tgt := 18) hx hb dL_law_463 (by decide) ?_
        exact ih (i + 3) (by omega) (by omega) n bb w F bs ct la up dp H locs hI hbs hP hD hS ls (lv_sub hl [1, 2, 3, 0] rfl)
      refine lv_aload_n hx hb dL_law_26 rfl (lv_at hl 0 rfl) ?_
      refine lv_iload_n hx hb dL_law_27 rfl (lv_at hl 3 rfl) ?_
      refine va_sld hx hb hX hbl hbA hS (zI_in (k := i) (by omega) (by omega)) dL_law_28 ?_
      refine z_seti (y := zI ((xs (i)).toInt)) (by rw [zI_cl (by omega)]; exact zI_of _) ?_
      refine lv_bipush (v := 15) hx hb dL_law_29 (by decide) ?_
      refine lv_iand hx hb dL_law_31 ?_
      obtain ⟨j, hj, ej⟩ := pk_andE (zI ((xs (i)).toInt)) (m := 15) 4 (by decide)
      rw [ej]
      have hj : j = 0 ∨ j = 1 ∨ j = 2 ∨ j = 3 ∨ j = 4 ∨ j = 5 ∨ j = 6 ∨ j = 7 ∨ j = 8 ∨ j = 9 ∨ j = 10 ∨ j = 11 ∨ j = 12 ∨ j = 13 ∨ j = 14 ∨ j = 15 := by omega
      clear ej
      rcases hj with rfl | rfl | rfl | rfl | rfl | rfl | rfl | rfl | rfl | rfl | rfl | rfl | rfl | rfl | rfl | rfl
      · refine lv_tableIn (off := 80) (tgt := 112) hx hb dL_law_32 (by decide) (by decide) (by decide) (by decide) ?_
        refine lv_aload_n hx hb dL_law_112 rfl (lv_at hl 1 rfl) ?_
        refine mu_call (n := 0) (wr := tc_mW Am dm (zI ((n : Int))) bs ct la up dp) hx hb hml hown hts (kX_open l D Ax dx hI H.size) (lw_V q46 q47 q48 q16 q49) (by decide +kernel) ⟨Nat.le_of_ble_eq_true rfl, Nat.le_of_ble_eq_true rfl⟩ ⟨rfl, rfl⟩ hKx hP hD hS hA [0, 1, 2, 3, 4] [5, 6, 7, 8] rfl rfl rfl (by decide) (by decide) (by decide) rfl rfl rfl hl rfl (Nat.le_of_ble_eq_true rfl) dL_law_113 ⟨Nat.le_of_ble_eq_true rfl, Nat.le_of_ble_eq_true rfl⟩ (fun r1 u H locs hX1 hP hD hS => ?_)
        obtain ⟨w1, c1, F1⟩ := u
        obtain ⟨n1, b1, e1, hI1, ho1⟩ := hX1
        have e1 : c1 = zI ((n1 : Nat) : Int) := e1
        subst e1
        have hI1 : tc_xI n1 b1 w1 F1 := hI1
        have hP : va_P D tc_Cl (tc_xW Ax w1 (zI ((n1 : Int))) dx F1 ++ tc_mW Am dm (zI ((n : Int))) bs ct la up dp) H := hP.sub [4, 5, 6, 7, 8, 0, 1, 2, 3] rfl
        have hD : va_D (fun q : Nat => s.heap.size ≤ q) (tc_xW Ax w1 (zI ((n1 : Int))) dx F1 ++ tc_mW Am dm (zI ((n : Int))) bs ct la up dp) := hD.sub [4, 5, 6, 7, 8, 0, 1, 2, 3] (by decide) rfl
        refine lv_aload_n hx hb dL_law_116 rfl (lv_at hl 2 rfl) ?_
        refine mu_call (n := 0) (wr := tc_xW Ax w1 (zI ((n1 : Int))) dx F1) hx hb hml hown hts (kM_open l D Am dm hn hok hbs ct la up dp H.size) (lw_V q187 q188 q189 q17 q190) (by decide +kernel) ⟨Nat.le_of_ble_eq_true rfl, Nat.le_of_ble_eq_true rfl⟩ ⟨rfl, rfl⟩ hKm hP hD hS hA [5, 6, 7, 8] [0, 1, 2, 3, 4] rfl rfl rfl (by decide) (by decide) (by decide) rfl rfl rfl hl rfl (Nat.le_of_ble_eq_true rfl) dL_law_117 ⟨Nat.le_of_ble_eq_true rfl, Nat.le_of_ble_eq_true rfl⟩ (fun r2 u H locs hM1 hP hD hS => ?_)
        obtain ⟨sz2, bs2, ct2, la2, up2, dp2⟩ := u
        obtain ⟨n2, b2, e2, hbs2, ho2⟩ := hM1
        have e2 : sz2 = zI ((n2 : Nat) : Int) := e2
        subst e2
        have hbs2 : tc_bs n2 b2 bs2 := hbs2
        have hP : va_P D tc_Cl (tc_xW Ax w1 (zI ((n1 : Int))) dx F1 ++ tc_mW Am dm (zI ((n2 : Int))) bs2 ct2 la2 up2 dp2) H := hP
        have hD : va_D (fun q : Nat => s.heap.size ≤ q) (tc_xW Ax w1 (zI ((n1 : Int))) dx F1 ++ tc_mW Am dm (zI ((n2 : Int))) bs2 ct2 la2 up2 dp2) := hD
        obtain ⟨en, eb, er⟩ := tc_op_u ho1 ho2
        subst en
        subst eb
        refine lv_icmp_eq (tgt := 460) hx hb dL_law_120 (by decide) (fun hc2 => ?_) (fun hc2 => ?_)
        · exact k460 n2 b2 w1 F1 bs2 ct2 la2 up2 dp2 H locs hI1 hbs2 hP hD hS ls hl
        · exact absurd er.symm hc2
      · refine lv_tableIn (off := 93) (tgt := 125) hx hb dL_law_32 (by decide) (by decide) (by decide) (by decide) ?_
        refine lv_aload_n hx hb dL_law_125 rfl (lv_at hl 1 rfl) ?_
        refine mu_call (n := 0) (wr := tc_mW Am dm (zI ((n : Int))) bs ct la up dp) hx hb hml hown hts (kX_close l D Ax dx hI H.size) (lw_V q66 q67 q68 q16 q69) (by decide +kernel) ⟨Nat.le_of_ble_eq_true rfl, Nat.le_of_ble_eq_true rfl⟩ ⟨rfl, rfl⟩ hKx hP hD hS hA [0, 1, 2, 3, 4] [5, 6, 7, 8] rfl rfl rfl (by decide) (by decide) (by decide) rfl rfl rfl hl rfl (Nat.le_of_ble_eq_true rfl) dL_law_126 ⟨Nat.le_of_ble_eq_true rfl, Nat.le_of_ble_eq_true rfl⟩ (fun r1 u H locs hX1 hP hD hS => ?_)
        obtain ⟨w1, c1, F1⟩ := u
        obtain ⟨n1, b1, e1, hI1, ho1⟩ := hX1
        have e1 : c1 = zI ((n1 : Nat) : Int) := e1
        subst e1
        have hI1 : tc_xI n1 b1 w1 F1 := hI1
        have hP : va_P D tc_Cl (tc_xW Ax w1 (zI ((n1 : Int))) dx F1 ++ tc_mW Am dm (zI ((n : Int))) bs ct la up dp) H := hP.sub [4, 5, 6, 7, 8, 0, 1, 2, 3] rfl
        have hD : va_D (fun q : Nat => s.heap.size ≤ q) (tc_xW Ax w1 (zI ((n1 : Int))) dx F1 ++ tc_mW Am dm (zI ((n : Int))) bs ct la up dp) := hD.sub [4, 5, 6, 7, 8, 0, 1, 2, 3] (by decide) rfl
        refine lv_aload_n hx hb dL_law_129 rfl (lv_at hl 2 rfl) ?_
        refine mu_call (n := 0) (wr := tc_xW Ax w1 (zI ((n1 : Int))) dx F1) hx hb hml hown hts (kM_close l D Am dm hn hok hbs ct la up dp H.size) (lw_V q195 q196 q197 q17 q198) (by decide +kernel) ⟨Nat.le_of_ble_eq_true rfl, Nat.le_of_ble_eq_true rfl⟩ ⟨rfl, rfl⟩ hKm hP hD hS hA [5, 6, 7, 8] [0, 1, 2, 3, 4] rfl rfl rfl (by decide) (by decide) (by decide) rfl rfl rfl hl rfl (Nat.le_of_ble_eq_true rfl) dL_law_130 ⟨Nat.le_of_ble_eq_true rfl, Nat.le_of_ble_eq_true rfl⟩ (fun r2 u H locs hM1 hP hD hS => ?_)
        obtain ⟨sz2, bs2, ct2, la2, up2, dp2⟩ := u
        obtain ⟨n2, b2, e2, hbs2, ho2⟩ := hM1
        have e2 : sz2 = zI ((n2 : Nat) : Int) := e2
        subst e2
        have hbs2 : tc_bs n2 b2 bs2 := hbs2
        have hP : va_P D tc_Cl (tc_xW Ax w1 (zI ((n1 : Int))) dx F1 ++ tc_mW Am dm (zI ((n2 : Int))) bs2 ct2 la2 up2 dp2) H := hP
        have hD : va_D (fun q : Nat => s.heap.size ≤ q) (tc_xW Ax w1 (zI ((n1 : Int))) dx F1 ++ tc_mW Am dm (zI ((n2 : Int))) bs2 ct2 la2 up2 dp2) := hD
        obtain ⟨en, eb, er⟩ := tc_cl_u hok ho1 ho2
        subst en
        subst eb
        refine lv_icmp_eq (tgt := 460) hx hb dL_law_133 (by decide) (fun hc2 => ?_) (fun hc2 => ?_)
        · exact k460 n2 b2 w1 F1 bs2 ct2 la2 up2 dp2 H locs hI1 hbs2 hP hD hS ls hl
        · exact absurd er.symm hc2
      · refine lv_tableIn (off := 106) (tgt := 138) hx hb dL_law_32 (by decide) (by decide) (by decide) (by decide) ?_
        refine lv_aload_n hx hb dL_law_138 rfl (lv_at hl 1 rfl) ?_
        refine mu_call (n := 0) (wr := tc_mW Am dm (zI ((n : Int))) bs ct la up dp) hx hb hml hown hts (kX_undo l D Ax dx hI H.size) (lw_V q83 q84 q85 q16 q86) (by decide +kernel) ⟨Nat.le_of_ble_eq_true rfl, Nat.le_of_ble_eq_true rfl⟩ ⟨rfl, rfl⟩ hKx hP hD hS hA [0, 1, 2, 3, 4] [5, 6, 7, 8] rfl rfl rfl (by decide) (by decide) (by decide) rfl rfl rfl hl rfl (Nat.le_of_ble_eq_true rfl) dL_law_139 ⟨Nat.le_of_ble_eq_true rfl, Nat.le_of_ble_eq_true rfl⟩ (fun r1 u H locs hX1 hP hD hS => ?_)
        obtain ⟨w1, c1, F1⟩ := u
        obtain ⟨n1, b1, e1, hI1, ho1⟩ := hX1
        have e1 : c1 = zI ((n1 : Nat) : Int) := e1
        subst e1
        have hI1 : tc_xI n1 b1 w1 F1 := hI1
        have hP : va_P D tc_Cl (tc_xW Ax w1 (zI ((n1 : Int))) dx F1 ++ tc_mW Am dm (zI ((n : Int))) bs ct la up dp) H := hP.sub [4, 5, 6, 7, 8, 0, 1, 2, 3] rfl
        have hD : va_D (fun q : Nat => s.heap.size ≤ q) (tc_xW Ax w1 (zI ((n1 : Int))) dx F1 ++ tc_mW Am dm (zI ((n : Int))) bs ct la up dp) := hD.sub [4, 5, 6, 7, 8, 0, 1, 2, 3] (by decide) rfl
        refine lv_aload_n hx hb dL_law_142 rfl (lv_at hl 2 rfl) ?_
        refine mu_call (n := 0) (wr := tc_xW Ax w1 (zI ((n1 : Int))) dx F1) hx hb hml hown hts (kM_undo l D Am dm hn hok hbs ct la up dp H.size) (lw_V q199 q200 q201 q17 q202) (by decide +kernel) ⟨Nat.le_of_ble_eq_true rfl, Nat.le_of_ble_eq_true rfl⟩ ⟨rfl, rfl⟩ hKm hP hD hS hA [5, 6, 7, 8] [0, 1, 2, 3, 4] rfl rfl rfl (by decide) (by decide) (by decide) rfl rfl rfl hl rfl (Nat.le_of_ble_eq_true rfl) dL_law_143 ⟨Nat.le_of_ble_eq_true rfl, Nat.le_of_ble_eq_true rfl⟩ (fun r2 u H locs hM1 hP hD hS => ?_)
        obtain ⟨sz2, bs2, ct2, la2, up2, dp2⟩ := u
        obtain ⟨n2, b2, e2, hbs2, ho2⟩ := hM1
        have e2 : sz2 = zI ((n2 : Nat) : Int) := e2
        subst e2
        have hbs2 : tc_bs n2 b2 bs2 := hbs2
        have hP : va_P D tc_Cl (tc_xW Ax w1 (zI ((n1 : Int))) dx F1 ++ tc_mW Am dm (zI ((n2 : Int))) bs2 ct2 la2 up2 dp2) H := hP
        have hD : va_D (fun q : Nat => s.heap.size ≤ q) (tc_xW Ax w1 (zI ((n1 : Int))) dx F1 ++ tc_mW Am dm (zI ((n2 : Int))) bs2 ct2 la2 up2 dp2) := hD
        obtain ⟨en, eb, er⟩ := tc_un_u ho1 ho2
        subst en
        subst eb
        refine lv_icmp_eq (tgt := 460) hx hb dL_law_146 (by decide) (fun hc2 => ?_) (fun hc2 => ?_)
        · exact k460 n2 b2 w1 F1 bs2 ct2 la2 up2 dp2 H locs hI1 hbs2 hP hD hS ls hl
        · exact absurd er.symm hc2
      · refine lv_tableIn (off := 119) (tgt := 151) hx hb dL_law_32 (by decide) (by decide) (by decide) (by decide) ?_
        refine lv_aload_n hx hb dL_law_151 rfl (lv_at hl 1 rfl) ?_
        have hPx : va_P D tc_Cl (tc_xW Ax w (zI ((n : Int))) dx F) H := hP.sub [0, 1, 2, 3, 4] rfl
        refine ro_call (n := 0) hx hb hml hown hts (kX_nodes l D Ax dx hI) (lw_V q87 q59 q60 q16 q61) (by decide +kernel) ⟨Nat.le_of_ble_eq_true rfl, Nat.le_of_ble_eq_true rfl⟩ ⟨rfl, rfl⟩ hKx hPx rfl rfl rfl hl rfl (Nat.le_of_ble_eq_true rfl) dL_law_152 ⟨Nat.le_of_ble_eq_true rfl, Nat.le_of_ble_eq_true rfl⟩ (fun r1 hX1 => ?_)
        refine lv_aload_n hx hb dL_law_155 rfl (lv_at hl 2 rfl) ?_
        refine mu_call (n := 0) (wr := tc_xW Ax w (zI ((n : Int))) dx F) hx hb hml hown hts (kM_nodes l D Am dm hn hok hbs ct la up dp H.size) (lw_V q203 q204 q205 q17 q206) (by decide +kernel) ⟨Nat.le_of_ble_eq_true rfl, Nat.le_of_ble_eq_true rfl⟩ ⟨rfl, rfl⟩ hKm hP hD hS hA [5, 6, 7, 8] [0, 1, 2, 3, 4] rfl rfl rfl (by decide) (by decide) (by decide) rfl rfl rfl hl rfl (Nat.le_of_ble_eq_true rfl) dL_law_156 ⟨Nat.le_of_ble_eq_true rfl, Nat.le_of_ble_eq_true rfl⟩ (fun r2 u H locs hM1 hP hD hS => ?_)
        obtain ⟨ct2, la2, up2, dp2⟩ := u
        have hP : va_P D tc_Cl (tc_xW Ax w (zI ((n : Int))) dx F ++ tc_mW Am dm (zI ((n : Int))) bs ct2 la2 up2 dp2) H := hP
        have hD : va_D (fun q : Nat => s.heap.size ≤ q) (tc_xW Ax w (zI ((n : Int))) dx F ++ tc_mW Am dm (zI ((n : Int))) bs ct2 la2 up2 dp2) := hD
        refine lv_icmp_eq (tgt := 460) hx hb dL_law_159 (by decide) (fun hc2 => ?_) (fun hc2 => ?_)
        · exact k460 n bb w F bs ct2 la2 up2 dp2 H locs hI hbs hP hD hS ls hl
        · exact absurd (hX1.trans hM1.symm) hc2
      · refine lv_tableIn (off := 132) (tgt := 164) hx hb dL_law_32 (by decide) (by decide) (by decide) (by decide) ?_
        refine lv_aload_n hx hb dL_law_164 rfl (lv_at hl 1 rfl) ?_
        have hPx : va_P D tc_Cl (tc_xW Ax w (zI ((n : Int))) dx F) H := hP.sub [0, 1, 2, 3, 4] rfl
        refine ro_call (n := 0) hx hb hml hown hts (kX_openNodes l D Ax dx hI) (lw_V q88 q71 q72 q16 q73) (by decide +kernel) ⟨Nat.le_of_ble_eq_true rfl, Nat.le_of_ble_eq_true rfl⟩ ⟨rfl, rfl⟩ hKx hPx rfl rfl rfl hl rfl (Nat.le_of_ble_eq_true rfl) dL_law_165 ⟨Nat.le_of_ble_eq_true rfl, Nat.le_of_ble_eq_true rfl⟩ (fun r1 hX1 => ?_)
        refine lv_aload_n hx hb dL_law_168 rfl (lv_at hl 2 rfl) ?_
        refine mu_call (n := 0) (wr := tc_xW Ax w (zI ((n : Int))) dx F) hx hb hml hown hts (kM_openNodes l D Am dm hn hok hbs ct la up dp H.size) (lw_V q207 q208 q209 q17 q210) (by decide +kernel) ⟨Nat.le_of_ble_eq_true rfl, Nat.le_of_ble_eq_true rfl⟩ ⟨rfl, rfl⟩ hKm hP hD hS hA [5, 6, 7, 8] [0, 1, 2, 3, 4] rfl rfl rfl (by decide) (by decide) (by decide) rfl rfl rfl hl rfl (Nat.le_of_ble_eq_true rfl) dL_law_169 ⟨Nat.le_of_ble_eq_true rfl, Nat.le_of_ble_eq_true rfl⟩ (fun r2 u H locs hM1 hP hD hS => ?_)
        obtain ⟨ct2, la2, up2, dp2⟩ := u
        have hP : va_P D tc_Cl (tc_xW Ax w (zI ((n : Int))) dx F ++ tc_mW Am dm (zI ((n : Int))) bs ct2 la2 up2 dp2) H := hP
        have hD : va_D (fun q : Nat => s.heap.size ≤ q) (tc_xW Ax w (zI ((n : Int))) dx F ++ tc_mW Am dm (zI ((n : Int))) bs ct2 la2 up2 dp2) := hD
        refine lv_icmp_eq (tgt := 460) hx hb dL_law_172 (by decide) (fun hc2 => ?_) (fun hc2 => ?_)
        · exact k460 n bb w F bs ct2 la2 up2 dp2 H locs hI hbs hP hD hS ls hl
        · exact absurd (hX1.trans hM1.symm) hc2
      · refine lv_tableIn (off := 145) (tgt := 177) hx hb dL_law_32 (by decide) (by decide) (by decide) (by decide) ?_
        refine lv_aload_n hx hb dL_law_177 rfl (lv_at hl 1 rfl) ?_
        refine lv_aload_n hx hb dL_law_178 rfl (lv_at hl 0 rfl) ?_
        refine lv_iload_n hx hb dL_law_179 rfl (lv_at hl 3 rfl) ?_
        refine lv_iconst (v := zI 1) hx hb dL_law_180 rfl ?_
        refine z_iadd hx hb dL_law_181 ?_
        refine z_set (y := ((i + 1 : Nat) : Int)) (by omega) ?_
        refine va_sld hx hb hX hbl hbA hS (zI_in (k := i + 1) (by omega) (by omega)) dL_law_182 ?_
        refine z_seti (y := zI ((xs (i + 1)).toInt)) (by rw [zI_cl (by omega)]; exact zI_of _) ?_
        have hPx : va_P D tc_Cl (tc_xW Ax w (zI ((n : Int))) dx F) H := hP.sub [0, 1, 2, 3, 4] rfl
        refine ro_call (n := 1) hx hb hml hown hts (kX_parent l D Ax dx hI (xs (i + 1)).toInt (zs_of _)) (lw_V q89 q90 q91 q16 q92) (by decide +kernel) ⟨Nat.le_of_ble_eq_true rfl, Nat.le_of_ble_eq_true rfl⟩ ⟨rfl, rfl⟩ hKx hPx rfl rfl rfl hl rfl (Nat.le_of_ble_eq_true rfl) dL_law_183 ⟨Nat.le_of_ble_eq_true rfl, Nat.le_of_ble_eq_true rfl⟩ (fun r1 hX1 => ?_)
        refine lv_aload_n hx hb dL_law_186 rfl (lv_at hl 2 rfl) ?_
        refine lv_aload_n hx hb dL_law_187 rfl (lv_at hl 0 rfl) ?_
        refine lv_iload_n hx hb dL_law_188 rfl (lv_at hl 3 rfl) ?_
        refine lv_iconst (v := zI 1) hx hb dL_law_189 rfl ?_
        refine z_iadd hx hb dL_law_190 ?_
        refine z_set (y := ((i + 1 : Nat) : Int)) (by omega) ?_
        refine va_sld hx hb hX hbl hbA hS (zI_in (k := i + 1) (by omega) (by omega)) dL_law_191 ?_
        refine z_seti (y := zI ((xs (i + 1)).toInt)) (by rw [zI_cl (by omega)]; exact zI_of _) ?_
        refine mu_call (n := 1) (wr := tc_xW Ax w (zI ((n : Int))) dx F) hx hb hml hown hts (kM_parent l D Am dm hn hok hbs (xs (i + 1)).toInt (zs_of _) ct la up dp H.size) (lw_V q211 q212 q213 q17 q214) (by decide +kernel) ⟨Nat.le_of_ble_eq_true rfl, Nat.le_of_ble_eq_true rfl⟩ ⟨rfl, rfl⟩ hKm hP hD hS hA [5, 6, 7, 8] [0, 1, 2, 3, 4] rfl rfl rfl (by decide) (by decide) (by decide) rfl rfl rfl hl rfl (Nat.le_of_ble_eq_true rfl) dL_law_192 ⟨Nat.le_of_ble_eq_true rfl, Nat.le_of_ble_eq_true rfl⟩ (fun r2 u H locs hM1 hP hD hS => ?_)
        obtain ⟨ct2, la2, up2, dp2⟩ := u
        have hP : va_P D tc_Cl (tc_xW Ax w (zI ((n : Int))) dx F ++ tc_mW Am dm (zI ((n : Int))) bs ct2 la2 up2 dp2) H := hP
        have hD : va_D (fun q : Nat => s.heap.size ≤ q) (tc_xW Ax w (zI ((n : Int))) dx F ++ tc_mW Am dm (zI ((n : Int))) bs ct2 la2 up2 dp2) := hD
        refine lv_icmp_eq (tgt := 460) hx hb dL_law_195 (by decide) (fun hc2 => ?_) (fun hc2 => ?_)
        · exact k460 n bb w F bs ct2 la2 up2 dp2 H locs hI hbs hP hD hS ls hl
        · exact absurd (tc_S_uniq (R := tc_tp bb) hn (fun p0 z z2 h1 h2 h3 h4 => tc_tp_uniq hok (by omega) h3 h4) hX1 hM1) hc2
      · refine lv_tableIn (off := 168) (tgt := 200) hx hb dL_law_32 (by decide) (by decide) (by decide) (by decide) ?_
        refine lv_aload_n hx hb dL_law_200 rfl (lv_at hl 1 rfl) ?_
        refine lv_aload_n hx hb dL_law_201 rfl (lv_at hl 0 rfl) ?_
        refine lv_iload_n hx hb dL_law_202 rfl (lv_at hl 3 rfl) ?_
        refine lv_iconst (v := zI 1) hx hb dL_law_203 rfl ?_
        refine z_iadd hx hb dL_law_204 ?_
        refine z_set (y := ((i + 1 : Nat) : Int)) (by omega) ?_
        refine va_sld hx hb hX hbl hbA hS (zI_in (k := i + 1) (by omega) (by omega)) dL_law_205 ?_
        refine z_seti (y := zI ((xs (i + 1)).toInt)) (by rw [zI_cl (by omega)]; exact zI_of _) ?_
        have hPx : va_P D tc_Cl (tc_xW Ax w (zI ((n : Int))) dx F) H := hP.sub [0, 1, 2, 3, 4] rfl
        refine ro_call (n := 1) hx hb hml hown hts (kX_depth l D Ax dx hI (xs (i + 1)).toInt (zs_of _)) (lw_V q101 q102 q103 q16 q104) (by decide +kernel) ⟨Nat.le_of_ble_eq_true rfl, Nat.le_of_ble_eq_true rfl⟩ ⟨rfl, rfl⟩ hKx hPx rfl rfl rfl hl rfl (Nat.le_of_ble_eq_true rfl) dL_law_206 ⟨Nat.le_of_ble_eq_true rfl, Nat.le_of_ble_eq_true rfl⟩ (fun r1 hX1 => ?_)
        refine lv_aload_n hx hb dL_law_209 rfl (lv_at hl 2 rfl) ?_
        refine lv_aload_n hx hb dL_law_210 rfl (lv_at hl 0 rfl) ?_
        refine lv_iload_n hx hb dL_law_211 rfl (lv_at hl 3 rfl) ?_
        refine lv_iconst (v := zI 1) hx hb dL_law_212 rfl ?_
        refine z_iadd hx hb dL_law_213 ?_
        refine z_set (y := ((i + 1 : Nat) : Int)) (by omega) ?_
        refine va_sld hx hb hX hbl hbA hS (zI_in (k := i + 1) (by omega) (by omega)) dL_law_214 ?_
        refine z_seti (y := zI ((xs (i + 1)).toInt)) (by rw [zI_cl (by omega)]; exact zI_of _) ?_
        refine mu_call (n := 1) (wr := tc_xW Ax w (zI ((n : Int))) dx F) hx hb hml hown hts (kM_depth l D Am dm hn hok hbs (xs (i + 1)).toInt (zs_of _) ct la up dp H.size) (lw_V q219 q220 q221 q17 q222) (by decide +kernel) ⟨Nat.le_of_ble_eq_true rfl, Nat.le_of_ble_eq_true rfl⟩ ⟨rfl, rfl⟩ hKm hP hD hS hA [5, 6, 7, 8] [0, 1, 2, 3, 4] rfl rfl rfl (by decide) (by decide) (by decide) rfl rfl rfl hl rfl (Nat.le_of_ble_eq_true rfl) dL_law_215 ⟨Nat.le_of_ble_eq_true rfl, Nat.le_of_ble_eq_true rfl⟩ (fun r2 u H locs hM1 hP hD hS => ?_)
        obtain ⟨ct2, la2, up2, dp2⟩ := u
        have hP : va_P D tc_Cl (tc_xW Ax w (zI ((n : Int))) dx F ++ tc_mW Am dm (zI ((n : Int))) bs ct2 la2 up2 dp2) H := hP
        have hD : va_D (fun q : Nat => s.heap.size ≤ q) (tc_xW Ax w (zI ((n : Int))) dx F ++ tc_mW Am dm (zI ((n : Int))) bs ct2 la2 up2 dp2) := hD
        refine lv_icmp_eq (tgt := 460) hx hb dL_law_218 (by decide) (fun hc2 => ?_) (fun hc2 => ?_)
        · exact k460 n bb w F bs ct2 la2 up2 dp2 H locs hI hbs hP hD hS ls hl
        · exact absurd (tc_S_uniq (R := fun p x => x = tc_lev bb p) hn (fun p0 z z2 h1 h2 h3 h4 => h3.trans h4.symm) hX1 hM1) hc2
      · refine lv_tableIn (off := 191) (tgt := 223) hx hb dL_law_32 (by decide) (by decide) (by decide) (by decide) ?_
        refine lv_aload_n hx hb dL_law_223 rfl (lv_at hl 1 rfl) ?_
        refine lv_aload_n hx hb dL_law_224 rfl (lv_at hl 0 rfl) ?_
        refine lv_iload_n hx hb dL_law_225 rfl (lv_at hl 3 rfl) ?_
        refine lv_iconst (v := zI 1) hx hb dL_law_226 rfl ?_
        refine z_iadd hx hb dL_law_227 ?_
        refine z_set (y := ((i + 1 : Nat) : Int)) (by omega) ?_
        refine va_sld hx hb hX hbl hbA hS (zI_in (k := i + 1) (by omega) (by omega)) dL_law_228 ?_
        refine z_seti (y := zI ((xs (i + 1)).toInt)) (by rw [zI_cl (by omega)]; exact zI_of _) ?_
        have hPx : va_P D tc_Cl (tc_xW Ax w (zI ((n : Int))) dx F) H := hP.sub [0, 1, 2, 3, 4] rfl
        refine ro_call (n := 1) hx hb hml hown hts (kX_size l D Ax dx hI (xs (i + 1)).toInt (zs_of _)) (lw_V q105 q106 q107 q16 q108) (by decide +kernel) ⟨Nat.le_of_ble_eq_true rfl, Nat.le_of_ble_eq_true rfl⟩ ⟨rfl, rfl⟩ hKx hPx rfl rfl rfl hl rfl (Nat.le_of_ble_eq_true rfl) dL_law_229 ⟨Nat.le_of_ble_eq_true rfl, Nat.le_of_ble_eq_true rfl⟩ (fun r1 hX1 => ?_)
        refine lv_aload_n hx hb dL_law_232 rfl (lv_at hl 2 rfl) ?_
        refine lv_aload_n hx hb dL_law_233 rfl (lv_at hl 0 rfl) ?_
        refine lv_iload_n hx hb dL_law_234 rfl (lv_at hl 3 rfl) ?_
        refine lv_iconst (v := zI 1) hx hb dL_law_235 rfl ?_
        refine z_iadd hx hb dL_law_236 ?_
        refine z_set (y := ((i + 1 : Nat) : Int)) (by omega) ?_
        refine va_sld hx hb hX hbl hbA hS (zI_in (k := i + 1) (by omega) (by omega)) dL_law_237 ?_
        refine z_seti (y := zI ((xs (i + 1)).toInt)) (by rw [zI_cl (by omega)]; exact zI_of _) ?_
        refine mu_call (n := 1) (wr := tc_xW Ax w (zI ((n : Int))) dx F) hx hb hml hown hts (kM_size l D Am dm hn hok hbs (xs (i + 1)).toInt (zs_of _) ct la up dp H.size) (lw_V q223 q224 q225 q17 q226) (by decide +kernel) ⟨Nat.le_of_ble_eq_true rfl, Nat.le_of_ble_eq_true rfl⟩ ⟨rfl, rfl⟩ hKm hP hD hS hA [5, 6, 7, 8] [0, 1, 2, 3, 4] rfl rfl rfl (by decide) (by decide) (by decide) rfl rfl rfl hl rfl (Nat.le_of_ble_eq_true rfl) dL_law_238 ⟨Nat.le_of_ble_eq_true rfl, Nat.le_of_ble_eq_true rfl⟩ (fun r2 u H locs hM1 hP hD hS => ?_)
        obtain ⟨ct2, la2, up2, dp2⟩ := u
        have hP : va_P D tc_Cl (tc_xW Ax w (zI ((n : Int))) dx F ++ tc_mW Am dm (zI ((n : Int))) bs ct2 la2 up2 dp2) H := hP
        have hD : va_D (fun q : Nat => s.heap.size ≤ q) (tc_xW Ax w (zI ((n : Int))) dx F ++ tc_mW Am dm (zI ((n : Int))) bs ct2 la2 up2 dp2) := hD
        refine lv_icmp_eq (tgt := 460) hx hb dL_law_241 (by decide) (fun hc2 => ?_) (fun hc2 => ?_)
        · exact k460 n bb w F bs ct2 la2 up2 dp2 H locs hI hbs hP hD hS ls hl
        · exact absurd (tc_S_uniq (R := tc_Rsize n bb) hn (fun p0 z z2 h1 h2 h3 h4 => tc_Rsize_u h3 h4) hX1 hM1) hc2
      · refine lv_tableIn (off := 214) (tgt := 246) hx hb dL_law_32 (by decide) (by decide) (by decide) (by decide) ?_
        refine lv_aload_n hx hb dL_law_246 rfl (lv_at hl 1 rfl) ?_
        refine lv_aload_n hx hb dL_law_247 rfl (lv_at hl 0 rfl) ?_
        refine lv_iload_n hx hb dL_law_248 rfl (lv_at hl 3 rfl) ?_
        refine lv_iconst (v := zI 1) hx hb dL_law_249 rfl ?_
        refine z_iadd hx hb dL_law_250 ?_
        refine z_set (y := ((i + 1 : Nat) : Int)) (by omega) ?_
        refine va_sld hx hb hX hbl hbA hS (zI_in (k := i + 1) (by omega) (by omega)) dL_law_251 ?_
        refine z_seti (y := zI ((xs (i + 1)).toInt)) (by rw [zI_cl (by omega)]; exact zI_of _) ?_
        have hPx : va_P D tc_Cl (tc_xW Ax w (zI ((n : Int))) dx F) H := hP.sub [0, 1, 2, 3, 4] rfl
        refine ro_call (n := 1) hx hb hml hown hts (kX_children l D Ax dx hI (xs (i + 1)).toInt (zs_of _)) (lw_V q117 q118 q119 q16 q120) (by decide +kernel) ⟨Nat.le_of_ble_eq_true rfl, Nat.le_of_ble_eq_true rfl⟩ ⟨rfl, rfl⟩ hKx hPx rfl rfl rfl hl rfl (Nat.le_of_ble_eq_true rfl) dL_law_252 ⟨Nat.le_of_ble_eq_true rfl, Nat.le_of_ble_eq_true rfl⟩ (fun r1 hX1 => ?_)
        refine lv_aload_n hx hb dL_law_255 rfl (lv_at hl 2 rfl) ?_
        refine lv_aload_n hx hb dL_law_256 rfl (lv_at hl 0 rfl) ?_
        refine lv_iload_n hx hb dL_law_257 rfl (lv_at hl 3 rfl) ?_
        refine lv_iconst (v := zI 1) hx hb dL_law_258 rfl ?_
        refine z_iadd hx hb dL_law_259 ?_
        refine z_set (y := ((i + 1 : Nat) : Int)) (by omega) ?_
        refine va_sld hx hb hX hbl hbA hS (zI_in (k := i + 1) (by omega) (by omega)) dL_law_260 ?_
        refine z_seti (y := zI ((xs (i + 1)).toInt)) (by rw [zI_cl (by omega)]; exact zI_of _) ?_
        refine mu_call (n := 1) (wr := tc_xW Ax w (zI ((n : Int))) dx F) hx hb hml hown hts (kM_children l D Am dm hn hok hbs (xs (i + 1)).toInt (zs_of _) ct la up dp H.size) (lw_V q231 q232 q233 q17 q234) (by decide +kernel) ⟨Nat.le_of_ble_eq_true rfl, Nat.le_of_ble_eq_true rfl⟩ ⟨rfl, rfl⟩ hKm hP hD hS hA [5, 6, 7, 8] [0, 1, 2, 3, 4] rfl rfl rfl (by decide) (by decide) (by decide) rfl rfl rfl hl rfl (Nat.le_of_ble_eq_true rfl) dL_law_261 ⟨Nat.le_of_ble_eq_true rfl, Nat.le_of_ble_eq_true rfl⟩ (fun r2 u H locs hM1 hP hD hS => ?_)
        obtain ⟨ct2, la2, up2, dp2⟩ := u
        have hP : va_P D tc_Cl (tc_xW Ax w (zI ((n : Int))) dx F ++ tc_mW Am dm (zI ((n : Int))) bs ct2 la2 up2 dp2) H := hP
        have hD : va_D (fun q : Nat => s.heap.size ≤ q) (tc_xW Ax w (zI ((n : Int))) dx F ++ tc_mW Am dm (zI ((n : Int))) bs ct2 la2 up2 dp2) := hD
        refine lv_icmp_eq (tgt := 460) hx hb dL_law_264 (by decide) (fun hc2 => ?_) (fun hc2 => ?_)
        · exact k460 n bb w F bs ct2 la2 up2 dp2 H locs hI hbs hP hD hS ls hl
        · exact absurd (tc_S_uniq (R := tc_Rchildren n bb) hn (fun p0 z z2 h1 h2 h3 h4 => h3.trans h4.symm) hX1 hM1) hc2
      · refine lv_tableIn (off := 237) (tgt := 269) hx hb dL_law_32 (by decide) (by decide) (by decide) (by decide) ?_
        refine lv_aload_n hx hb dL_law_269 rfl (lv_at hl 1 rfl) ?_
        refine lv_aload_n hx hb dL_law_270 rfl (lv_at hl 0 rfl) ?_
        refine lv_iload_n hx hb dL_law_271 rfl (lv_at hl 3 rfl) ?_
        refine lv_iconst (v := zI 1) hx hb dL_law_272 rfl ?_
        refine z_iadd hx hb dL_law_273 ?_
        refine z_set (y := ((i + 1 : Nat) : Int)) (by omega) ?_
        refine va_sld hx hb hX hbl hbA hS (zI_in (k := i + 1) (by omega) (by omega)) dL_law_274 ?_
        refine z_seti (y := zI ((xs (i + 1)).toInt)) (by rw [zI_cl (by omega)]; exact zI_of _) ?_
        refine lv_aload_n hx hb dL_law_275 rfl (lv_at hl 0 rfl) ?_
        refine lv_iload_n hx hb dL_law_276 rfl (lv_at hl 3 rfl) ?_
        refine lv_iconst (v := zI 2) hx hb dL_law_277 rfl ?_
        refine z_iadd hx hb dL_law_278 ?_
        refine z_set (y := ((i + 2 : Nat) : Int)) (by omega) ?_
        refine va_sld hx hb hX hbl hbA hS (zI_in (k := i + 2) (by omega) (by omega)) dL_law_279 ?_
        refine z_seti (y := zI ((xs (i + 2)).toInt)) (by rw [zI_cl (by omega)]; exact zI_of _) ?_
        have hPx : va_P D tc_Cl (tc_xW Ax w (zI ((n : Int))) dx F) H := hP.sub [0, 1, 2, 3, 4] rfl
        refine ro_call (n := 2) hx hb hml hown hts (kX_child l D Ax dx hI (xs (i + 1)).toInt (zs_of _) (xs (i + 2)).toInt (zs_of _)) (lw_V q133 q122 q123 q16 q124) (by decide +kernel) ⟨Nat.le_of_ble_eq_true rfl, Nat.le_of_ble_eq_true rfl⟩ ⟨rfl, rfl⟩ hKx hPx rfl rfl rfl hl rfl (Nat.le_of_ble_eq_true rfl) dL_law_280 ⟨Nat.le_of_ble_eq_true rfl, Nat.le_of_ble_eq_true rfl⟩ (fun r1 hX1 => ?_)
        refine lv_aload_n hx hb dL_law_283 rfl (lv_at hl 2 rfl) ?_
        refine lv_aload_n hx hb dL_law_284 rfl (lv_at hl 0 rfl) ?_
        refine lv_iload_n hx hb dL_law_285 rfl (lv_at hl 3 rfl) ?_
        refine lv_iconst (v := zI 1) hx hb dL_law_286 rfl ?_
        refine z_iadd hx hb dL_law_287 ?_
        refine z_set (y := ((i + 1 : Nat) : Int)) (by omega) ?_
        refine va_sld hx hb hX hbl hbA hS (zI_in (k := i + 1) (by omega) (by omega)) dL_law_288 ?_
        refine z_seti (y := zI ((xs (i + 1)).toInt)) (by rw [zI_cl (by omega)]; exact zI_of _) ?_
        refine lv_aload_n hx hb dL_law_289 rfl (lv_at hl 0 rfl) ?_
        refine lv_iload_n hx hb dL_law_290 rfl (lv_at hl 3 rfl) ?_
        refine lv_iconst (v := zI 2) hx hb dL_law_291 rfl ?_
        refine z_iadd hx hb dL_law_292 ?_
        refine z_set (y := ((i + 2 : Nat) : Int)) (by omega) ?_
        refine va_sld hx hb hX hbl hbA hS (zI_in (k := i + 2) (by omega) (by omega)) dL_law_293 ?_
        refine z_seti (y := zI ((xs (i + 2)).toInt)) (by rw [zI_cl (by omega)]; exact zI_of _) ?_
        refine mu_call (n := 2) (wr := tc_xW Ax w (zI ((n : Int))) dx F) hx hb hml hown hts (kM_child l D Am dm hn hok hbs (xs (i + 1)).toInt (zs_of _) (xs (i + 2)).toInt (zs_of _) ct la up dp H.size) (lw_V q239 q240 q241 q17 q242) (by decide +kernel) ⟨Nat.le_of_ble_eq_true rfl, Nat.le_of_ble_eq_true rfl⟩ ⟨rfl, rfl⟩ hKm hP hD hS hA [5, 6, 7, 8] [0, 1, 2, 3, 4] rfl rfl rfl (by decide) (by decide) (by decide) rfl rfl rfl hl rfl (Nat.le_of_ble_eq_true rfl) dL_law_294 ⟨Nat.le_of_ble_eq_true rfl, Nat.le_of_ble_eq_true rfl⟩ (fun r2 u H locs hM1 hP hD hS => ?_)
        obtain ⟨ct2, la2, up2, dp2⟩ := u
        have hP : va_P D tc_Cl (tc_xW Ax w (zI ((n : Int))) dx F ++ tc_mW Am dm (zI ((n : Int))) bs ct2 la2 up2 dp2) H := hP
        have hD : va_D (fun q : Nat => s.heap.size ≤ q) (tc_xW Ax w (zI ((n : Int))) dx F ++ tc_mW Am dm (zI ((n : Int))) bs ct2 la2 up2 dp2) := hD
        refine lv_icmp_eq (tgt := 460) hx hb dL_law_297 (by decide) (fun hc2 => ?_) (fun hc2 => ?_)
        · exact k460 n bb w F bs ct2 la2 up2 dp2 H locs hI hbs hP hD hS ls hl
        · exact absurd (tc_S_uniq (R := tc_Rchild n bb (zI (xs (i + 2)).toInt)) hn (fun p0 z z2 h1 h2 h3 h4 => tc_Rchild_u hn h3 h4) hX1 hM1) hc2
      · refine lv_tableIn (off := 270) (tgt := 302) hx hb dL_law_32 (by decide) (by decide) (by decide) (by decide) ?_
        refine lv_aload_n hx hb dL_law_302 rfl (lv_at hl 1 rfl) ?_
        refine lv_aload_n hx hb dL_law_303 rfl (lv_at hl 0 rfl) ?_
        refine lv_iload_n hx hb dL_law_304 rfl (lv_at hl 3 rfl) ?_
        refine lv_iconst (v := zI 1) hx hb dL_law_305 rfl ?_
        refine z_iadd hx hb dL_law_306 ?_
        refine z_set (y := ((i + 1 : Nat) : Int)) (by omega) ?_
        refine va_sld hx hb hX hbl hbA hS (zI_in (k := i + 1) (by omega) (by omega)) dL_law_307 ?_
        refine z_seti (y := zI ((xs (i + 1)).toInt)) (by rw [zI_cl (by omega)]; exact zI_of _) ?_
        have hPx : va_P D tc_Cl (tc_xW Ax w (zI ((n : Int))) dx F) H := hP.sub [0, 1, 2, 3, 4] rfl
        refine ro_call (n := 1) hx hb hml hown hts (kX_next l D Ax dx hI (xs (i + 1)).toInt (zs_of _)) (lw_V q134 q130 q131 q16 q132) (by decide +kernel) ⟨Nat.le_of_ble_eq_true rfl, Nat.le_of_ble_eq_true rfl⟩ ⟨rfl, rfl⟩ hKx hPx rfl rfl rfl hl rfl (Nat.le_of_ble_eq_true rfl) dL_law_308 ⟨Nat.le_of_ble_eq_true rfl, Nat.le_of_ble_eq_true rfl⟩ (fun r1 hX1 => ?_)
        refine lv_aload_n hx hb dL_law_311 rfl (lv_at hl 2 rfl) ?_
        refine lv_aload_n hx hb dL_law_312 rfl (lv_at hl 0 rfl) ?_
        refine lv_iload_n hx hb dL_law_313 rfl (lv_at hl 3 rfl) ?_
        refine lv_iconst (v := zI 1) hx hb dL_law_314 rfl ?_
        refine z_iadd hx hb dL_law_315 ?_
        refine z_set (y := ((i + 1 : Nat) : Int)) (by omega) ?_
        refine va_sld hx hb hX hbl hbA hS (zI_in (k := i + 1) (by omega) (by omega)) dL_law_316 ?_
        refine z_seti (y := zI ((xs (i + 1)).toInt)) (by rw [zI_cl (by omega)]; exact zI_of _) ?_
        refine mu_call (n := 1) (wr := tc_xW Ax w (zI ((n : Int))) dx F) hx hb hml hown hts (kM_next l D Am dm hn hok hbs (xs (i + 1)).toInt (zs_of _) ct la up dp H.size) (lw_V q243 q244 q245 q17 q246) (by decide +kernel) ⟨Nat.le_of_ble_eq_true rfl, Nat.le_of_ble_eq_true rfl⟩ ⟨rfl, rfl⟩ hKm hP hD hS hA [5, 6, 7, 8] [0, 1, 2, 3, 4] rfl rfl rfl (by decide) (by decide) (by decide) rfl rfl rfl hl rfl (Nat.le_of_ble_eq_true rfl) dL_law_317 ⟨Nat.le_of_ble_eq_true rfl, Nat.le_of_ble_eq_true rfl⟩ (fun r2 u H locs hM1 hP hD hS => ?_)
        obtain ⟨ct2, la2, up2, dp2⟩ := u
        have hP : va_P D tc_Cl (tc_xW Ax w (zI ((n : Int))) dx F ++ tc_mW Am dm (zI ((n : Int))) bs ct2 la2 up2 dp2) H := hP
        have hD : va_D (fun q : Nat => s.heap.size ≤ q) (tc_xW Ax w (zI ((n : Int))) dx F ++ tc_mW Am dm (zI ((n : Int))) bs ct2 la2 up2 dp2) := hD
        refine lv_icmp_eq (tgt := 460) hx hb dL_law_320 (by decide) (fun hc2 => ?_) (fun hc2 => ?_)
        · exact k460 n bb w F bs ct2 la2 up2 dp2 H locs hI hbs hP hD hS ls hl
        · exact absurd (tc_S_uniq (R := tc_Rnext n bb) hn (fun p0 z z2 h1 h2 h3 h4 => tc_Rnext_u h3 h4) hX1 hM1) hc2
      · refine lv_tableIn (off := 293) (tgt := 325) hx hb dL_law_32 (by decide) (by decide) (by decide) (by decide) ?_
        refine lv_aload_n hx hb dL_law_325 rfl (lv_at hl 1 rfl) ?_
        refine lv_aload_n hx hb dL_law_326 rfl (lv_at hl 0 rfl) ?_
        refine lv_iload_n hx hb dL_law_327 rfl (lv_at hl 3 rfl) ?_
        refine lv_iconst (v := zI 1) hx hb dL_law_328 rfl ?_
        refine z_iadd hx hb dL_law_329 ?_
        refine z_set (y := ((i + 1 : Nat) : Int)) (by omega) ?_
        refine va_sld hx hb hX hbl hbA hS (zI_in (k := i + 1) (by omega) (by omega)) dL_law_330 ?_
        refine z_seti (y := zI ((xs (i + 1)).toInt)) (by rw [zI_cl (by omega)]; exact zI_of _) ?_
        have hPx : va_P D tc_Cl (tc_xW Ax w (zI ((n : Int))) dx F) H := hP.sub [0, 1, 2, 3, 4] rfl
        refine ro_call (n := 1) hx hb hml hown hts (kX_previous l D Ax dx hI (xs (i + 1)).toInt (zs_of _)) (lw_V q135 q136 q137 q16 q138) (by decide +kernel) ⟨Nat.le_of_ble_eq_true rfl, Nat.le_of_ble_eq_true rfl⟩ ⟨rfl, rfl⟩ hKx hPx rfl rfl rfl hl rfl (Nat.le_of_ble_eq_true rfl) dL_law_331 ⟨Nat.le_of_ble_eq_true rfl, Nat.le_of_ble_eq_true rfl⟩ (fun r1 hX1 => ?_)
        refine lv_aload_n hx hb dL_law_334 rfl (lv_at hl 2 rfl) ?_
        refine lv_aload_n hx hb dL_law_335 rfl (lv_at hl 0 rfl) ?_
        refine lv_iload_n hx hb dL_law_336 rfl (lv_at hl 3 rfl) ?_
        refine lv_iconst (v := zI 1) hx hb dL_law_337 rfl ?_
        refine z_iadd hx hb dL_law_338 ?_
        refine z_set (y := ((i + 1 : Nat) : Int)) (by omega) ?_
        refine va_sld hx hb hX hbl hbA hS (zI_in (k := i + 1) (by omega) (by omega)) dL_law_339 ?_
        refine z_seti (y := zI ((xs (i + 1)).toInt)) (by rw [zI_cl (by omega)]; exact zI_of _) ?_
        refine mu_call (n := 1) (wr := tc_xW Ax w (zI ((n : Int))) dx F) hx hb hml hown hts (kM_previous l D Am dm hn hok hbs (xs (i + 1)).toInt (zs_of _) ct la up dp H.size) (lw_V q247 q248 q249 q17 q250) (by decide +kernel) ⟨Nat.le_of_ble_eq_true rfl, Nat.le_of_ble_eq_true rfl⟩ ⟨rfl, rfl⟩ hKm hP hD hS hA [5, 6, 7, 8] [0, 1, 2, 3, 4] rfl rfl rfl (by decide) (by decide) (by decide) rfl rfl rfl hl rfl (Nat.le_of_ble_eq_true rfl) dL_law_340 ⟨Nat.le_of_ble_eq_true rfl, Nat.le_of_ble_eq_true rfl⟩ (fun r2 u H locs hM1 hP hD hS => ?_)
        obtain ⟨ct2, la2, up2, dp2⟩ := u
        have hP : va_P D tc_Cl (tc_xW Ax w (zI ((n : Int))) dx F ++ tc_mW Am dm (zI ((n : Int))) bs ct2 la2 up2 dp2) H := hP
        have hD : va_D (fun q : Nat => s.heap.size ≤ q) (tc_xW Ax w (zI ((n : Int))) dx F ++ tc_mW Am dm (zI ((n : Int))) bs ct2 la2 up2 dp2) := hD
        refine lv_icmp_eq (tgt := 460) hx hb dL_law_343 (by decide) (fun hc2 => ?_) (fun hc2 => ?_)
        · exact k460 n bb w F bs ct2 la2 up2 dp2 H locs hI hbs hP hD hS ls hl
        · exact absurd (tc_S_uniq (R := tc_Rprev bb) hn (fun p0 z z2 h1 h2 h3 h4 => tc_Rprev_u h3 h4) hX1 hM1) hc2
      · refine lv_tableIn (off := 316) (tgt := 348) hx hb dL_law_32 (by decide) (by decide) (by decide) (by decide) ?_
        refine lv_aload_n hx hb dL_law_348 rfl (lv_at hl 1 rfl) ?_
        refine lv_aload_n hx hb dL_law_349 rfl (lv_at hl 0 rfl) ?_
        refine lv_iload_n hx hb dL_law_350 rfl (lv_at hl 3 rfl) ?_
        refine lv_iconst (v := zI 1) hx hb dL_law_351 rfl ?_
        refine z_iadd hx hb dL_law_352 ?_
        refine z_set (y := ((i + 1 : Nat) : Int)) (by omega) ?_
        refine va_sld hx hb hX hbl hbA hS (zI_in (k := i + 1) (by omega) (by omega)) dL_law_353 ?_
        refine z_seti (y := zI ((xs (i + 1)).toInt)) (by rw [zI_cl (by omega)]; exact zI_of _) ?_
        refine lv_aload_n hx hb dL_law_354 rfl (lv_at hl 0 rfl) ?_
        refine lv_iload_n hx hb dL_law_355 rfl (lv_at hl 3 rfl) ?_
        refine lv_iconst (v := zI 2) hx hb dL_law_356 rfl ?_
        refine z_iadd hx hb dL_law_357 ?_
        refine z_set (y := ((i + 2 : Nat) : Int)) (by omega) ?_
        refine va_sld hx hb hX hbl hbA hS (zI_in (k := i + 2) (by omega) (by omega)) dL_law_358 ?_
        refine z_seti (y := zI ((xs (i + 2)).toInt)) (by rw [zI_cl (by omega)]; exact zI_of _) ?_
        have hPx : va_P D tc_Cl (tc_xW Ax w (zI ((n : Int))) dx F) H := hP.sub [0, 1, 2, 3, 4] rfl
        refine ro_call (n := 2) hx hb hml hown hts (kX_meet l D Ax dx hI (xs (i + 1)).toInt (zs_of _) (xs (i + 2)).toInt (zs_of _)) (lw_V q139 q140 q141 q16 q142) (by decide +kernel) ⟨Nat.le_of_ble_eq_true rfl, Nat.le_of_ble_eq_true rfl⟩ ⟨rfl, rfl⟩ hKx hPx rfl rfl rfl hl rfl (Nat.le_of_ble_eq_true rfl) dL_law_359 ⟨Nat.le_of_ble_eq_true rfl, Nat.le_of_ble_eq_true rfl⟩ (fun r1 hX1 => ?_)
        refine lv_aload_n hx hb dL_law_362 rfl (lv_at hl 2 rfl) ?_
        refine lv_aload_n hx hb dL_law_363 rfl (lv_at hl 0 rfl) ?_
        refine lv_iload_n hx hb dL_law_364 rfl (lv_at hl 3 rfl) ?_
        refine lv_iconst (v := zI 1) hx hb dL_law_365 rfl ?_
        refine z_iadd hx hb dL_law_366 ?_
        refine z_set (y := ((i + 1 : Nat) : Int)) (by omega) ?_
        refine va_sld hx hb hX hbl hbA hS (zI_in (k := i + 1) (by omega) (by omega)) dL_law_367 ?_
        refine z_seti (y := zI ((xs (i + 1)).toInt)) (by rw [zI_cl (by omega)]; exact zI_of _) ?_
        refine lv_aload_n hx hb dL_law_368 rfl (lv_at hl 0 rfl) ?_
        refine lv_iload_n hx hb dL_law_369 rfl (lv_at hl 3 rfl) ?_
        refine lv_iconst (v := zI 2) hx hb dL_law_370 rfl ?_
        refine z_iadd hx hb dL_law_371 ?_
        refine z_set (y := ((i + 2 : Nat) : Int)) (by omega) ?_
        refine va_sld hx hb hX hbl hbA hS (zI_in (k := i + 2) (by omega) (by omega)) dL_law_372 ?_
        refine z_seti (y := zI ((xs (i + 2)).toInt)) (by rw [zI_cl (by omega)]; exact zI_of _) ?_
        refine mu_call (n := 2) (wr := tc_xW Ax w (zI ((n : Int))) dx F) hx hb hml hown hts (kM_meet l D Am dm hn hok hbs (xs (i + 1)).toInt (zs_of _) (xs (i + 2)).toInt (zs_of _) ct la up dp H.size) (lw_V q251 q252 q253 q17 q254) (by decide +kernel) ⟨Nat.le_of_ble_eq_true rfl, Nat.le_of_ble_eq_true rfl⟩ ⟨rfl, rfl⟩ hKm hP hD hS hA [5, 6, 7, 8] [0, 1, 2, 3, 4] rfl rfl rfl (by decide) (by decide) (by decide) rfl rfl rfl hl rfl (Nat.le_of_ble_eq_true rfl) dL_law_373 ⟨Nat.le_of_ble_eq_true rfl, Nat.le_of_ble_eq_true rfl⟩ (fun r2 u H locs hM1 hP hD hS => ?_)
        obtain ⟨ct2, la2, up2, dp2⟩ := u
        have hP : va_P D tc_Cl (tc_xW Ax w (zI ((n : Int))) dx F ++ tc_mW Am dm (zI ((n : Int))) bs ct2 la2 up2 dp2) H := hP
        have hD : va_D (fun q : Nat => s.heap.size ≤ q) (tc_xW Ax w (zI ((n : Int))) dx F ++ tc_mW Am dm (zI ((n : Int))) bs ct2 la2 up2 dp2) := hD
        refine lv_icmp_eq (tgt := 460) hx hb dL_law_376 (by decide) (fun hc2 => ?_) (fun hc2 => ?_)
        · exact k460 n bb w F bs ct2 la2 up2 dp2 H locs hI hbs hP hD hS ls hl
        · exact absurd (tc_Smeet_u hn hX1 hM1) hc2
      · refine lv_tableIn (off := 349) (tgt := 381) hx hb dL_law_32 (by decide) (by decide) (by decide) (by decide) ?_
        refine lv_aload_n hx hb dL_law_381 rfl (lv_at hl 1 rfl) ?_
        refine lv_aload_n hx hb dL_law_382 rfl (lv_at hl 0 rfl) ?_
        refine lv_iload_n hx hb dL_law_383 rfl (lv_at hl 3 rfl) ?_
        refine lv_iconst (v := zI 1) hx hb dL_law_384 rfl ?_
        refine z_iadd hx hb dL_law_385 ?_
        refine z_set (y := ((i + 1 : Nat) : Int)) (by omega) ?_
        refine va_sld hx hb hX hbl hbA hS (zI_in (k := i + 1) (by omega) (by omega)) dL_law_386 ?_
        refine z_seti (y := zI ((xs (i + 1)).toInt)) (by rw [zI_cl (by omega)]; exact zI_of _) ?_
        refine lv_aload_n hx hb dL_law_387 rfl (lv_at hl 0 rfl) ?_
        refine lv_iload_n hx hb dL_law_388 rfl (lv_at hl 3 rfl) ?_
        refine lv_iconst (v := zI 2) hx hb dL_law_389 rfl ?_
        refine z_iadd hx hb dL_law_390 ?_
        refine z_set (y := ((i + 2 : Nat) : Int)) (by omega) ?_
        refine va_sld hx hb hX hbl hbA hS (zI_in (k := i + 2) (by omega) (by omega)) dL_law_391 ?_
        refine z_seti (y := zI ((xs (i + 2)).toInt)) (by rw [zI_cl (by omega)]; exact zI_of _) ?_
        have hPx : va_P D tc_Cl (tc_xW Ax w (zI ((n : Int))) dx F) H := hP.sub [0, 1, 2, 3, 4] rfl
        refine ro_call (n := 2) hx hb hml hown hts (kX_aboveAt l D Ax dx hI (xs (i + 1)).toInt (zs_of _) (xs (i + 2)).toInt (zs_of _)) (lw_V q151 q148 q149 q16 q150) (by decide +kernel) ⟨Nat.le_of_ble_eq_true rfl, Nat.le_of_ble_eq_true rfl⟩ ⟨rfl, rfl⟩ hKx hPx rfl rfl rfl hl rfl (Nat.le_of_ble_eq_true rfl) dL_law_392 ⟨Nat.le_of_ble_eq_true rfl, Nat.le_of_ble_eq_true rfl⟩ (fun r1 hX1 => ?_)
        refine lv_aload_n hx hb dL_law_395 rfl (lv_at hl 2 rfl) ?_
        refine lv_aload_n hx hb dL_law_396 rfl (lv_at hl 0 rfl) ?_
        refine lv_iload_n hx hb dL_law_397 rfl (lv_at hl 3 rfl) ?_
        refine lv_iconst (v := zI 1) hx hb dL_law_398 rfl ?_
        refine z_iadd hx hb dL_law_399 ?_
        refine z_set (y := ((i + 1 : Nat) : Int)) (by omega) ?_
        refine va_sld hx hb hX hbl hbA hS (zI_in (k := i + 1) (by omega) (by omega)) dL_law_400 ?_
        refine z_seti (y := zI ((xs (i + 1)).toInt)) (by rw [zI_cl (by omega)]; exact zI_of _) ?_
        refine lv_aload_n hx hb dL_law_401 rfl (lv_at hl 0 rfl) ?_
        refine lv_iload_n hx hb dL_law_402 rfl (lv_at hl 3 rfl) ?_
        refine lv_iconst (v := zI 2) hx hb dL_law_403 rfl ?_
        refine z_iadd hx hb dL_law_404 ?_
        refine z_set (y := ((i + 2 : Nat) : Int)) (by omega) ?_
        refine va_sld hx hb hX hbl hbA hS (zI_in (k := i + 2) (by omega) (by omega)) dL_law_405 ?_
        refine z_seti (y := zI ((xs (i + 2)).toInt)) (by rw [zI_cl (by omega)]; exact zI_of _) ?_
        refine mu_call (n := 2) (wr := tc_xW Ax w (zI ((n : Int))) dx F) hx hb hml hown hts (kM_aboveAt l D Am dm hn hok hbs (xs (i + 1)).toInt (zs_of _) (xs (i + 2)).toInt (zs_of _) ct la up dp H.size) (lw_V q255 q256 q257 q17 q258) (by decide +kernel) ⟨Nat.le_of_ble_eq_true rfl, Nat.le_of_ble_eq_true rfl⟩ ⟨rfl, rfl⟩ hKm hP hD hS hA [5, 6, 7, 8] [0, 1, 2, 3, 4] rfl rfl rfl (by decide) (by decide) (by decide) rfl rfl rfl hl rfl (Nat.le_of_ble_eq_true rfl) dL_law_406 ⟨Nat.le_of_ble_eq_true rfl, Nat.le_of_ble_eq_true rfl⟩ (fun r2 u H locs hM1 hP hD hS => ?_)
        obtain ⟨ct2, la2, up2, dp2⟩ := u
        have hP : va_P D tc_Cl (tc_xW Ax w (zI ((n : Int))) dx F ++ tc_mW Am dm (zI ((n : Int))) bs ct2 la2 up2 dp2) H := hP
        have hD : va_D (fun q : Nat => s.heap.size ≤ q) (tc_xW Ax w (zI ((n : Int))) dx F ++ tc_mW Am dm (zI ((n : Int))) bs ct2 la2 up2 dp2) := hD
        refine lv_icmp_eq (tgt := 460) hx hb dL_law_409 (by decide) (fun hc2 => ?_) (fun hc2 => ?_)
        · exact k460 n bb w F bs ct2 la2 up2 dp2 H locs hI hbs hP hD hS ls hl
        · exact absurd (tc_S_uniq (R := tc_Rabove bb (zI (xs (i + 2)).toInt)) hn (fun p0 z z2 h1 h2 h3 h4 => tc_Rabove_u (by omega) h3 h4) hX1 hM1) hc2
      · refine lv_tableIn (off := 382) (tgt := 414) hx hb dL_law_32 (by decide) (by decide) (by decide) (by decide) ?_
        refine lv_aload_n hx hb dL_law_414 rfl (lv_at hl 1 rfl) ?_
        refine lv_aload_n hx hb dL_law_415 rfl (lv_at hl 0 rfl) ?_
        refine lv_iload_n hx hb dL_law_416 rfl (lv_at hl 3 rfl) ?_
        refine lv_iconst (v := zI 1) hx hb dL_law_417 rfl ?_
        refine z_iadd hx hb dL_law_418 ?_
        refine z_set (y := ((i + 1 : Nat) : Int)) (by omega) ?_
        refine va_sld hx hb hX hbl hbA hS (zI_in (k := i + 1) (by omega) (by omega)) dL_law_419 ?_
        refine z_seti (y := zI ((xs (i + 1)).toInt)) (by rw [zI_cl (by omega)]; exact zI_of _) ?_
        have hPx : va_P D tc_Cl (tc_xW Ax w (zI ((n : Int))) dx F) H := hP.sub [0, 1, 2, 3, 4] rfl
        refine ro_call (n := 1) hx hb hml hown hts (kX_height l D Ax dx hI (xs (i + 1)).toInt (zs_of _)) (lw_V q152 q153 q154 q16 q155) (by decide +kernel) ⟨Nat.le_of_ble_eq_true rfl, Nat.le_of_ble_eq_true rfl⟩ ⟨rfl, rfl⟩ hKx hPx rfl rfl rfl hl rfl (Nat.le_of_ble_eq_true rfl) dL_law_420 ⟨Nat.le_of_ble_eq_true rfl, Nat.le_of_ble_eq_true rfl⟩ (fun r1 hX1 => ?_)
        refine lv_aload_n hx hb dL_law_423 rfl (lv_at hl 2 rfl) ?_
        refine lv_aload_n hx hb dL_law_424 rfl (lv_at hl 0 rfl) ?_
        refine lv_iload_n hx hb dL_law_425 rfl (lv_at hl 3 rfl) ?_
        refine lv_iconst (v := zI 1) hx hb dL_law_426 rfl ?_
        refine z_iadd hx hb dL_law_427 ?_
        refine z_set (y := ((i + 1 : Nat) : Int)) (by omega) ?_
        refine va_sld hx hb hX hbl hbA hS (zI_in (k := i + 1) (by omega) (by omega)) dL_law_428 ?_
        refine z_seti (y := zI ((xs (i + 1)).toInt)) (by rw [zI_cl (by omega)]; exact zI_of _) ?_
        refine mu_call (n := 1) (wr := tc_xW Ax w (zI ((n : Int))) dx F) hx hb hml hown hts (kM_height l D Am dm hn hok hbs (xs (i + 1)).toInt (zs_of _) ct la up dp H.size) (lw_V q259 q260 q261 q17 q262) (by decide +kernel) ⟨Nat.le_of_ble_eq_true rfl, Nat.le_of_ble_eq_true rfl⟩ ⟨rfl, rfl⟩ hKm hP hD hS hA [5, 6, 7, 8] [0, 1, 2, 3, 4] rfl rfl rfl (by decide) (by decide) (by decide) rfl rfl rfl hl rfl (Nat.le_of_ble_eq_true rfl) dL_law_429 ⟨Nat.le_of_ble_eq_true rfl, Nat.le_of_ble_eq_true rfl⟩ (fun r2 u H locs hM1 hP hD hS => ?_)
        obtain ⟨ct2, la2, up2, dp2⟩ := u
        have hP : va_P D tc_Cl (tc_xW Ax w (zI ((n : Int))) dx F ++ tc_mW Am dm (zI ((n : Int))) bs ct2 la2 up2 dp2) H := hP
        have hD : va_D (fun q : Nat => s.heap.size ≤ q) (tc_xW Ax w (zI ((n : Int))) dx F ++ tc_mW Am dm (zI ((n : Int))) bs ct2 la2 up2 dp2) := hD
        refine lv_icmp_eq (tgt := 460) hx hb dL_law_432 (by decide) (fun hc2 => ?_) (fun hc2 => ?_)
        · exact k460 n bb w F bs ct2 la2 up2 dp2 H locs hI hbs hP hD hS ls hl
        · exact absurd (tc_S_uniq (R := tc_Rheight n bb) hn (fun p0 z z2 h1 h2 h3 h4 => tc_Rheight_u h3 h4) hX1 hM1) hc2
      · refine lv_tableIn (off := 405) (tgt := 437) hx hb dL_law_32 (by decide) (by decide) (by decide) (by decide) ?_
        refine lv_aload_n hx hb dL_law_437 rfl (lv_at hl 1 rfl) ?_
        refine lv_aload_n hx hb dL_law_438 rfl (lv_at hl 0 rfl) ?_
        refine lv_iload_n hx hb dL_law_439 rfl (lv_at hl 3 rfl) ?_
        refine lv_iconst (v := zI 1) hx hb dL_law_440 rfl ?_
        refine z_iadd hx hb dL_law_441 ?_
        refine z_set (y := ((i + 1 : Nat) : Int)) (by omega) ?_
        refine va_sld hx hb hX hbl hbA hS (zI_in (k := i + 1) (by omega) (by omega)) dL_law_442 ?_
        refine z_seti (y := zI ((xs (i + 1)).toInt)) (by rw [zI_cl (by omega)]; exact zI_of _) ?_
        have hPx : va_P D tc_Cl (tc_xW Ax w (zI ((n : Int))) dx F) H := hP.sub [0, 1, 2, 3, 4] rfl
        refine ro_call (n := 1) hx hb hml hown hts (kX_leavesBefore l D Ax dx hI (xs (i + 1)).toInt (zs_of _)) (lw_V q156 q157 q158 q16 q159) (by decide +kernel) ⟨Nat.le_of_ble_eq_true rfl, Nat.le_of_ble_eq_true rfl⟩ ⟨rfl, rfl⟩ hKx hPx rfl rfl rfl hl rfl (Nat.le_of_ble_eq_true rfl) dL_law_443 ⟨Nat.le_of_ble_eq_true rfl, Nat.le_of_ble_eq_true rfl⟩ (fun r1 hX1 => ?_)
        refine lv_aload_n hx hb dL_law_446 rfl (lv_at hl 2 rfl) ?_
        refine lv_aload_n hx hb dL_law_447 rfl (lv_at hl 0 rfl) ?_
        refine lv_iload_n hx hb dL_law_448 rfl (lv_at hl 3 rfl) ?_
        refine lv_iconst (v := zI 1) hx hb dL_law_449 rfl ?_
        refine z_iadd hx hb dL_law_450 ?_
        refine z_set (y := ((i + 1 : Nat) : Int)) (by omega) ?_
        refine va_sld hx hb hX hbl hbA hS (zI_in (k := i + 1) (by omega) (by omega)) dL_law_451 ?_
        refine z_seti (y := zI ((xs (i + 1)).toInt)) (by rw [zI_cl (by omega)]; exact zI_of _) ?_
        refine mu_call (n := 1) (wr := tc_xW Ax w (zI ((n : Int))) dx F) hx hb hml hown hts (kM_leavesBefore l D Am dm hn hok hbs (xs (i + 1)).toInt (zs_of _) ct la up dp H.size) (lw_V q263 q264 q265 q17 q266) (by decide +kernel) ⟨Nat.le_of_ble_eq_true rfl, Nat.le_of_ble_eq_true rfl⟩ ⟨rfl, rfl⟩ hKm hP hD hS hA [5, 6, 7, 8] [0, 1, 2, 3, 4] rfl rfl rfl (by decide) (by decide) (by decide) rfl rfl rfl hl rfl (Nat.le_of_ble_eq_true rfl) dL_law_452 ⟨Nat.le_of_ble_eq_true rfl, Nat.le_of_ble_eq_true rfl⟩ (fun r2 u H locs hM1 hP hD hS => ?_)
        obtain ⟨ct2, la2, up2, dp2⟩ := u
        have hP : va_P D tc_Cl (tc_xW Ax w (zI ((n : Int))) dx F ++ tc_mW Am dm (zI ((n : Int))) bs ct2 la2 up2 dp2) H := hP
        have hD : va_D (fun q : Nat => s.heap.size ≤ q) (tc_xW Ax w (zI ((n : Int))) dx F ++ tc_mW Am dm (zI ((n : Int))) bs ct2 la2 up2 dp2) := hD
        refine lv_icmp_eq (tgt := 460) hx hb dL_law_455 (by decide) (fun hc2 => ?_) (fun hc2 => ?_)
        · exact k460 n bb w F bs ct2 la2 up2 dp2 H locs hI hbs hP hD hS ls hl
        · exact absurd (tc_S_uniq (R := tc_Rleaves bb) hn (fun p0 z z2 h1 h2 h3 h4 => h3.trans h4.symm) hX1 hM1) hc2
set_option maxHeartbeats 4000000 in
set_option maxRecDepth 100000 in
/-- THE LAW, from its entry -/
theorem whole_start {p : Program} {e : Env} {s : State} {m : MethodId} {below : List Frame} {meth : Method} {c : Code} (l : Launch) {b L : Nat} {xs : Nat → Int32} (hL : L ≤ 192) (C0 : lw_At p s m meth c b L xs) : W p l e room_1 s m #[Value.ref b] below meth c s.heap [] 0 0 (lw_Z below #[Value.ref b] s) (entryFrame m ([Value.ref b] : List Value).toArray 4) := by
  obtain ⟨hx, hb, hr, hml, hown, hts0, hX, hbl, hlocks, hgv⟩ := id C0
  have hts : ∀ w ∈ lw_all, w.before #[Value.ref b] s = true := fun w h => hts0 w (lw_all_tbl h)
  have hA : ∀ q : Nat, s.heap.size ≤ q → (fun q : Nat => s.heap.size ≤ q) q := fun _ h => h
  obtain ⟨c0_, iS0, hKn0⟩ := u_known (C := RX0) (T := TX0) (N := 6) (n := 6) hts0 (fun w h => lw_all_tbl (in_X0 w h)) (hts _ q19)
  obtain ⟨c1_, iS1, hKn1⟩ := u_known (C := RX1) (T := TX1) (N := 6) (n := 6) hts0 (fun w h => lw_all_tbl (in_X1 w h)) (hts _ q161)
  obtain ⟨D, hKc⟩ : ∃ D : va_G, ∀ (k : Nat) (q : vw_C), tc_Cl[k]? = some q → u_Kn s q.1 q.2.1 q.2.2 (D.1 k) (D.2 k) := by
    refine ⟨(fun k => if k = 0 then c0_ else c1_, fun k => if k = 0 then iS0 else iS1), ?_⟩
    intro k q hq
    match k, hq with
    | 0, hq => cases hq; exact hKn0
    | 1, hq => cases hq; exact hKn1
    | k + 2, hq => simp [tc_Cl] at hq
  have hS : va_S (fun q : Nat => s.heap.size ≤ q) s.heap s.heap [] := va_S.rf
  have hK : va_K D tc_Cl [] s := ⟨hKc, fun k q h => by simp at h⟩
  have hP : va_P D tc_Cl [] s.heap := fun k q h => by simp at h
  have hD : va_D (fun q : Nat => s.heap.size ≤ q) [] := ⟨fun i j p q h => by simp at h, fun k q h => by simp at h⟩
  have hl := lv_entry ([.ref b]) (n := 4) (Nat.le_of_ble_eq_true rfl)
  rw [lg_entry_eq]
  generalize (lg_sl ([.ref b]) ++ List.replicate (4 - (lg_sl ([.ref b])).length) Slot.unset).toArray = ls at hl ⊢
  have hl : lv_has ls 4 [(0, .ref b)] := hl
  refine va_new (ci := 0) (fs := [.long 0, .int 0, .null, .null, .null, .null]) (C := RX0) (T := TX0) (N := 6) hx hb hts in_X0 tyX0 tyX0_ok hown (hts _ q18) (hts _ q19) (hts _ q16) hK hP hD hS hA rfl (fun j hj => by rcases (show j = 0 ∨ j = 1 ∨ j = 2 ∨ j = 3 ∨ j = 4 ∨ j = 5 by omega) with rfl | rfl | rfl | rfl | rfl | rfl <;> rfl) (Nat.le_of_ble_eq_true rfl) (Nat.le_of_ble_eq_true rfl) dL_law_0 (fun q0 H hP hD hS => ?_)
  have hP : va_P D tc_Cl ([(q0, .inr (0, [.long 0, .int 0, .null, .null, .null, .null]))]) H := hP
  have hD : va_D (fun q : Nat => s.heap.size ≤ q) ([(q0, .inr (0, [.long 0, .int 0, .null, .null, .null, .null]))]) := hD
  refine W.widen (k := 1) (n := 6) (by omega) (by omega) ?_
  refine lv_dup hx hb dL_law_3 rfl ?_
  have hPc := hP.sub (ws' := [(q0, .inr (0, [.long 0, .int 0, .null, .null, .null, .null]))]) [0] rfl
  have hDc := hD.sub (ws' := [(q0, .inr (0, [.long 0, .int 0, .null, .null, .null, .null]))]) [0] (by decide) rfl
  have hFc := va_free (wc := [(q0, .inr (0, [.long 0, .int 0, .null, .null, .null, .null]))]) hD hS hA [0] rfl
  refine va_callv (va_runI (As := []) (rest := [.ref q0]) ⟨hx, hb, hml, hown, hts⟩ (kX_init l D q0 H.size) (cwI 0 hts (lw_meth q22) rfl rfl rfl (hts _ q16) (hts _ q20) (hts _ q21) rfl (by decide +kernel) ⟨Nat.le_of_ble_eq_true rfl, Nat.le_of_ble_eq_true rfl⟩) ⟨mu_blind, fun U hU hW => ⟨rfl, by rw [hU], by rw [hU]; exact hPc, va_K.moved hW.alike hK, hDc.weaken (fun _ _ _ _ => trivial)⟩⟩ rfl rfl hl.1 rfl (lv_room (Nat.le_of_ble_eq_true rfl)) dL_law_4 ⟨Nat.le_of_ble_eq_true rfl, Nat.le_of_ble_eq_true rfl⟩) hS (fun q _ h => hFc q h) hFc (fun u t H1 locs ht hvm hw hB hz1 hk1 hS => ?_)
  obtain ⟨Ax, dx⟩ := u
  obtain ⟨hP1, hK1, hD1⟩ := hB
  rw [ht] at hP1
  have hKx : va_K D tc_Cl (tc_xT dx) s := va_K.moved hvm.symm hK1
  have hw : Ax 0 = q0 := hw
  obtain ⟨hP2, hD2⟩ := va_join (wr := []) (w1 := (tc_xW Ax 0 0 dx (fun _ _ => 0))) hP hD [0] [] rfl rfl (by decide) (by decide) hk1 hFc hP1 hD1
  subst hw
  generalize H1 = H at hP2 hS ⊢
  have hP : va_P D tc_Cl (tc_xW Ax 0 0 dx (fun _ _ => 0)) H := hP2
  have hD : va_D (fun q : Nat => s.heap.size ≤ q) (tc_xW Ax 0 0 dx (fun _ _ => 0)) := hD2
  refine W.widen (k := 5) (n := 38) (by omega) (by omega) ?_
  refine lv_astore_n (lv' := [(1, .ref (Ax 0)), (0, .ref b)]) hx hb dL_law_7 rfl hl (by decide) rfl (fun ls hl => ?_)
  refine va_new (ci := 1) (fs := [.int 0, .null, .int 0, .int 0, .null, .null]) (C := RX1) (T := TX1) (N := 6) hx hb hts in_X1 tyX1 tyX1_ok hown (hts _ q160) (hts _ q161) (hts _ q17) hK hP hD hS hA rfl (fun j hj => by rcases (show j = 0 ∨ j = 1 ∨ j = 2 ∨ j = 3 ∨ j = 4 ∨ j = 5 by omega) with rfl | rfl | rfl | rfl | rfl | rfl <;> rfl) (Nat.le_of_ble_eq_true rfl) (Nat.le_of_ble_eq_true rfl) dL_law_8 (fun q1 H hP hD hS => ?_)
  have hP : va_P D tc_Cl (tc_xW Ax 0 0 dx (fun _ _ => 0) ++ [(q1, .inr (1, [.int 0, .null, .int 0, .int 0, .null, .null]))]) H := hP
  have hD : va_D (fun q : Nat => s.heap.size ≤ q) (tc_xW Ax 0 0 dx (fun _ _ => 0) ++ [(q1, .inr (1, [.int 0, .null, .int 0, .int 0, .null, .null]))]) := hD
  refine W.widen (k := 6) (n := 44) (by omega) (by omega) ?_
  refine lv_dup hx hb dL_law_11 rfl ?_
  have hPc := hP.sub (ws' := [(q1, .inr (1, [.int 0, .null, .int 0, .int 0, .null, .null]))]) [5] rfl
  have hDc := hD.sub (ws' := [(q1, .inr (1, [.int 0, .null, .int 0, .int 0, .null, .null]))]) [5] (by decide) rfl
  have hFc := va_free (wc := [(q1, .inr (1, [.int 0, .null, .int 0, .int 0, .null, .null]))]) hD hS hA [5] rfl
  refine va_callv (va_runI (As := []) (rest := [.ref q1]) ⟨hx, hb, hml, hown, hts⟩ (kM_init l D q1 H.size) (cwI 0 hts (lw_meth q164) rfl rfl rfl (hts _ q17) (hts _ q162) (hts _ q163) rfl (by decide +kernel) ⟨Nat.le_of_ble_eq_true rfl, Nat.le_of_ble_eq_true rfl⟩) ⟨mu_blind, fun U hU hW => ⟨rfl, by rw [hU], by rw [hU]; exact hPc, va_K.moved hW.alike hK, hDc.weaken (fun _ _ _ _ => trivial)⟩⟩ rfl rfl hl.1 rfl (lv_room (Nat.le_of_ble_eq_true rfl)) dL_law_12 ⟨Nat.le_of_ble_eq_true rfl, Nat.le_of_ble_eq_true rfl⟩) hS (fun q _ h => hFc q h) hFc (fun u t H1 locs ht hvm hw hB hz1 hk1 hS => ?_)
  obtain ⟨Am, dm⟩ := u
  obtain ⟨hP1, hK1, hD1⟩ := hB
  rw [ht] at hP1
  have hKm : va_K D tc_Cl (tc_mT dm) s := va_K.moved hvm.symm hK1
  have hw : Am 0 = q1 := hw
  obtain ⟨hP2, hD2⟩ := va_join (wr := (tc_xW Ax 0 0 dx (fun _ _ => 0))) (w1 := (tc_mW Am dm 0 (fun _ => 0) 0 0 (fun _ => 0) (fun _ => 0))) hP hD [5] [0, 1, 2, 3, 4] rfl rfl (by decide) (by decide) hk1 hFc hP1 hD1
  subst hw
  generalize H1 = H at hP2 hS ⊢
  have hP : va_P D tc_Cl (tc_xW Ax 0 0 dx (fun _ _ => 0) ++ tc_mW Am dm 0 (fun _ => 0) 0 0 (fun _ => 0) (fun _ => 0)) H := hP2
  have hD : va_D (fun q : Nat => s.heap.size ≤ q) (tc_xW Ax 0 0 dx (fun _ _ => 0) ++ tc_mW Am dm 0 (fun _ => 0) 0 0 (fun _ => 0) (fun _ => 0)) := hD2
  refine W.widen (k := 9) (n := 236) (by omega) (by omega) ?_
  refine lv_astore_n (lv' := [(2, .ref (Am 0)), (1, .ref (Ax 0)), (0, .ref b)]) hx hb dL_law_15 rfl hl (by decide) rfl (fun ls hl => ?_)
  refine lv_iconst (v := zI ((0 : Nat) : Int)) hx hb dL_law_16 rfl ?_
  refine lv_istore_n (lv' := [(3, .int (zI ((0 : Nat) : Int))), (2, .ref (Am 0)), (1, .ref (Ax 0)), (0, .ref b)]) hx hb dL_law_17 rfl hl (by decide) rfl (fun ls hl => ?_)
  have hz0 : zI ((0 : Nat) : Int) = 0 := by decide
  exact law_loop hL C0 hKx hKm (L + 1) 0 (by omega) (by omega) 0 (fun _ => false) 0 (fun _ _ => 0) (fun _ => 0) 0 0 (fun _ => 0) (fun _ => 0) H locs ⟨by omega, fun i hi => by rw [show i = 0 by omega, tc_lev_0]; omega, fun i hi => absurd hi (Nat.not_lt_zero i), fun k m h1 h2 _ _ => by omega⟩ (fun i hi => absurd hi (Nat.not_lt_zero i)) (by rw [hz0]; exact hP) (by rw [hz0]; exact hD) hS ls (lv_sub hl [3, 2, 1, 0] rfl)
end
section
set_option maxHeartbeats 4000000 in
theorem lw_walk (l : Launch) (b : Addr) (xs : List Int32) : MetFree l x (headSpec (Jvm.Cond.code x code maxLocals ret :: tables_1) room_1) (lw_P b xs) (fun _ _ _ _ _ => True) lw_Q := by
  refine MetFree.of_bodyS (code := code) (maxLocals := maxLocals) (ret := ret) (by decide) ?_ ?_
  · intro args s m h hn
    obtain ⟨meth, c, h1, h2, h3, h4, h5, h6, -, -⟩ := Cond.code_spec hn (atoms_spec (ws := Jvm.Cond.code x code maxLocals ret :: tables_1) h _ List.mem_cons_self)
    exact ⟨meth, c, h1, h2, h3, h4, h5, h6⟩
  · intro p e s m args below meth c s₁ B hml0 hP _
    obtain ⟨rfl, hx, hbd, hgv⟩ := hP
    obtain ⟨scr, harrAt, hlist, hof, hsmall⟩ := hx
    obtain ⟨hcb, hkn, -, -⟩ := State.arrayAt?_spec harrAt
    have hown : s.vm.findClass R_law = some m.cls := findClass_of_methodNamed B.named
    have hts0 : ∀ c ∈ (Jvm.Cond.code x code maxLocals ret :: tables_1), c.before #[Value.ref b] s = true := atoms_spec (ws := Jvm.Cond.code x code maxLocals ret :: tables_1) B.pre
    have hts : ∀ w ∈ lw_tbl, w.before #[Value.ref b] s = true := k2_hts_sels lw_privs (fun w hw => hts0 w (List.mem_cons_of_mem _ hw)) lw_privs_ok
    have hml : c.maxLocals = 4 := B.maxLocals_eq (hts0 _ List.mem_cons_self)
    have X₀ : Stand p l e room_1 s m #[Value.ref b] below meth c s₁ [] 0 0 := Stand.of_body B
    have hh0 : s₁.heap = s.heap := by rw [B.state]; rfl
    have hsz : scr.slots.size = xs.length := by rw [← Array.length_toList, hlist, List.length_map]
    have hval : ∀ j : Nat, j < xs.length → scr.slots[j]? = some (.int (xs.getD j 0)) := fun j hj => by
      rw [← Array.getElem?_toList, hlist]
      simp [hj]
    have hbl : b < s.heap.size := (Array.getElem?_eq_some_iff.mp hcb).1
    have hX : va_X b xs.length (fun j => xs.getD j 0) s s.heap := ⟨scr, hcb, hof, hkn, hsz, hval⟩
    have K : W p l e room_1 s m #[Value.ref b] below meth c s₁.heap [] 0 0 (lw_Z below #[Value.ref b] s) (entryFrame m ([Value.ref b] : List Value).toArray 4) := by
      rw [hh0]
      exact whole_start l hbd ⟨B.exec, B.bytes, B.returns, hml, hown, hts, hX, hbl, B.notSynchronized, hgv⟩
    obtain ⟨t, a1, o, b1, b2, b3⟩ := K s₁ rfl X₀
    exact ⟨t, o, a1, b1, b2, b3⟩
theorem lw_pre_spec {args : Array Value} {s : State} (h : (Jvm.Cond.and given_1 narrow_1).before args s = true) (hr : rest_1_c.before args s = true) : ∃ (b : Addr) (xs : List Int32), lw_P b xs args s := by
  have hs := flat_of_before _ h
  have hq := flat_of_before _ hr
  have hc : (Cond.count 1).before args s = true := hs _ (by decide +kernel)
  have harr : (Cond.arrayOf (.arg 0) .int).before args s = true := hs _ (by decide +kernel)
  have hle : (Cond.le (.length (.arg 0)) (.int 192)).before args s = true := hs _ (by decide +kernel)
  have hlen : (Cond.isInt (.length (.arg 0))).before args s = true := hq _ (by decide +kernel)
  have hall : (Cond.all (.arg 0) (.isInt (.elem (.arg 0) (.index 0)))).before args s = true := hq _ (by decide +kernel)
  obtain ⟨b, xs, hb, hx⟩ := State.ints_of_pre rfl harr hlen hall
  have hsm : xs.length < 2 ^ 31 := hx.choose_spec.2.2.2
  have hev : (Term.length (.arg 0)).eval args s none [] s = some (.int xs.length.toInt32) := hx.length_eval hb
  have hv := Cond.le_ints hev (show (Term.int 192).eval args s none [] s = some (.int 192) from rfl)
  have hd : xs.length.toInt32 ≤ 192 := by
    simpa [Cond.before, Cond.holds, hv] using hle
  have hN : xs.length ≤ 192 := (Int32.ofNat_le_ofNat hsm (by decide)).mp (show Int32.ofNat xs.length ≤ Int32.ofNat 192 from hd)
  exact ⟨b, xs, Cond.one_arg hc (show args[0]? = some (.ref b) from hb), hx, hN, h⟩
theorem lw_comes (l : Launch) : Comes l x (Jvm.Cond.code x code maxLocals ret :: tables_1) room_1 (fun tb e args s => Calls_1 tb e args s ∧ rest_1 tb e args s ∧ Pre_1 tb e args s)
    (fun _ _ args s o t => lw_Q args s o t) := by
  intro p e ha hc hk s m args below hf hfit hheap happ hpre
  obtain ⟨b, xs, hP⟩ := lw_pre_spec hpre.2.2 hpre.2.1
  obtain ⟨k, o, h1, h2, h3, hQ⟩ := lw_walk l b xs p e ha hc hk s m args below hf ((Spec.applies_iff_loose hf).mp happ).1 hP trivial
  exact ⟨k, o, h1, h2, h3, hQ⟩
theorem lw_frame {s t : State} {o : Outcome} {args : Array Value} (h : Framed s o t [] 600000 7290000) :
    Framed s o t (fieldLocs frame_1_writes args s ++ arrayLocs frame_1_arrays args s ++ staticLocs frame_1_statics s) 600000 7290000 := h
theorem lw_limb (L : Cond) (hL : ∀ (args : Array Value) (s t : State), L.after args s (.returned (some (.int 1))) t = true) :
    ArmFor flags0 classFile x code maxLocals ret World_1 tables_1 room_1 Calls_1 rest_1 Pre_1
      (fun tb e a s o t => postC L tb e a s o t ∧ Framed s o t (fieldLocs frame_1_writes a s ++ arrayLocs frame_1_arrays a s ++ staticLocs frame_1_statics s) 600000 7290000) := by
  intro l _ _ _ p e ha hc hk s m args below hf hfit hheap happ hpre
  obtain ⟨k, o, h1, h2, h3, rfl, hF⟩ := lw_comes l p e ha hc hk s m args below hf hfit hheap happ hpre
  exact ⟨k, _, h1, h2, h3, hL args s _, lw_frame hF⟩
theorem i_vc : Claimed_1_1 ∧ Claimed_1_2 := ⟨lw_limb limb_1_1 (fun args s t => by simp [limb_1_1, Cond.after, Cond.holds, Cond.value]), lw_limb limb_1_2 (fun args s t => Cond.after_iff.mpr (by
  first | (rw [show limb_1_2 = Cond.eq .result (.int 1) from rfl, Cond.eq_ints (x := 1) (y := 1) rfl rfl]; simp; done) | (simp [limb_1_2, Cond.value, Term.eval]; done)))⟩
end
