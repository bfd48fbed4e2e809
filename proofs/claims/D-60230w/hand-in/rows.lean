section
-- ===== PART A: goes FIRST, ahead of the names: the tables' words, and 'selects' of the private methods out of them =====
/-- a private method of a class that the tables say can be made, by its rows of tables_1 -/
def lw_okq (q : MethodName × Nat) : Prop := (q.1.cls ≠ "java/lang/invoke/MethodHandle" ∧ q.1.cls ≠ "java/lang/invoke/VarHandle") ∧ Cond.instantiable q.1.cls q.2 ∈ tables_1 ∧ Cond.privateMethod q.1 ∈ tables_1 ∧ Cond.instanceMethod q.1 ∈ tables_1
set_option maxRecDepth 100000
theorem lw_t1 {w : Cond} (h : w ∈ tables_1_1) : w ∈ tables_1 := List.mem_append_left _ h
theorem lw_t2 {w : Cond} (h : w ∈ tables_1_2) : w ∈ tables_1 := List.mem_append_right _ h
theorem lw_p0 : lw_okq (⟨"OrderMatcher", "changed", "()V"⟩, 10) := ⟨⟨by decide +kernel, by decide +kernel⟩, lw_t1 (List.mem_of_getElem? (i := 4) rfl), lw_t1 (List.mem_of_getElem? (i := 48) rfl), lw_t1 (List.mem_of_getElem? (i := 49) rfl)⟩
theorem lw_p1 : lw_okq (⟨"OrderMatcher", "refresh", "()V"⟩, 10) := ⟨⟨by decide +kernel, by decide +kernel⟩, lw_t1 (List.mem_of_getElem? (i := 4) rfl), lw_t1 (List.mem_of_getElem? (i := 92) rfl), lw_t1 (List.mem_of_getElem? (i := 93) rfl)⟩
theorem lw_p2 : lw_okq (⟨"OrderMatcher", "code", "()V"⟩, 10) := ⟨⟨by decide +kernel, by decide +kernel⟩, lw_t1 (List.mem_of_getElem? (i := 4) rfl), lw_t1 (List.mem_of_getElem? (i := 96) rfl), lw_t1 (List.mem_of_getElem? (i := 97) rfl)⟩
theorem lw_p3 : lw_okq (⟨"OrderMatcher", "findNeighbours", "(I)V"⟩, 10) := ⟨⟨by decide +kernel, by decide +kernel⟩, lw_t1 (List.mem_of_getElem? (i := 4) rfl), lw_t1 (List.mem_of_getElem? (i := 100) rfl), lw_t1 (List.mem_of_getElem? (i := 101) rfl)⟩
theorem lw_p4 : lw_okq (⟨"OrderMatcher", "fitsPattern", "(II)Z"⟩, 10) := ⟨⟨by decide +kernel, by decide +kernel⟩, lw_t1 (List.mem_of_getElem? (i := 4) rfl), lw_t1 (List.mem_of_getElem? (i := 104) rfl), lw_t1 (List.mem_of_getElem? (i := 105) rfl)⟩
theorem lw_p5 : lw_okq (⟨"OrderMatcher", "compares", "(IIII)Z"⟩, 10) := ⟨⟨by decide +kernel, by decide +kernel⟩, lw_t1 (List.mem_of_getElem? (i := 4) rfl), lw_t1 (List.mem_of_getElem? (i := 108) rfl), lw_t1 (List.mem_of_getElem? (i := 109) rfl)⟩
theorem lw_p6 : lw_okq (⟨"OrderMatcher", "fitsText", "(II)Z"⟩, 10) := ⟨⟨by decide +kernel, by decide +kernel⟩, lw_t1 (List.mem_of_getElem? (i := 4) rfl), lw_t1 (List.mem_of_getElem? (i := 112) rfl), lw_t1 (List.mem_of_getElem? (i := 113) rfl)⟩
theorem lw_p7 : lw_okq (⟨"OrderMatcher", "endsAt", "(I)Z"⟩, 10) := ⟨⟨by decide +kernel, by decide +kernel⟩, lw_t1 (List.mem_of_getElem? (i := 4) rfl), lw_t1 (List.mem_of_getElem? (i := 116) rfl), lw_t1 (List.mem_of_getElem? (i := 117) rfl)⟩
theorem lw_p8 : lw_okq (⟨"OrderMatcherModel", "occurs", "(I)Z"⟩, 4) := ⟨⟨by decide +kernel, by decide +kernel⟩, lw_t1 (List.mem_of_getElem? (i := 152) rfl), lw_t1 (List.mem_of_getElem? (i := 215) rfl), lw_t1 (List.mem_of_getElem? (i := 216) rfl)⟩
theorem lw_p9 : lw_okq (⟨"OrderMatcherModel", "alike", "(III)Z"⟩, 4) := ⟨⟨by decide +kernel, by decide +kernel⟩, lw_t1 (List.mem_of_getElem? (i := 152) rfl), lw_t1 (List.mem_of_getElem? (i := 219) rfl), lw_t1 (List.mem_of_getElem? (i := 220) rfl)⟩
theorem lw_p10 : lw_okq (⟨"OrderMatcherModel", "order", "(II)I"⟩, 4) := ⟨⟨by decide +kernel, by decide +kernel⟩, lw_t1 (List.mem_of_getElem? (i := 152) rfl), lw_t1 (List.mem_of_getElem? (i := 223) rfl), lw_t1 (List.mem_of_getElem? (i := 224) rfl)⟩
theorem lw_p11 : lw_okq (⟨"OrderMatcherModel", "widest", "(I)I"⟩, 4) := ⟨⟨by decide +kernel, by decide +kernel⟩, lw_t1 (List.mem_of_getElem? (i := 152) rfl), lw_t2 (List.mem_of_getElem? (i := 7) rfl), lw_t2 (List.mem_of_getElem? (i := 8) rfl)⟩
def lw_privs_1 : List (MethodName × Nat) := [(⟨"OrderMatcher", "changed", "()V"⟩, 10), (⟨"OrderMatcher", "refresh", "()V"⟩, 10), (⟨"OrderMatcher", "code", "()V"⟩, 10), (⟨"OrderMatcher", "findNeighbours", "(I)V"⟩, 10), (⟨"OrderMatcher", "fitsPattern", "(II)Z"⟩, 10), (⟨"OrderMatcher", "compares", "(IIII)Z"⟩, 10), (⟨"OrderMatcher", "fitsText", "(II)Z"⟩, 10), (⟨"OrderMatcher", "endsAt", "(I)Z"⟩, 10), (⟨"OrderMatcherModel", "occurs", "(I)Z"⟩, 4), (⟨"OrderMatcherModel", "alike", "(III)Z"⟩, 4), (⟨"OrderMatcherModel", "order", "(II)I"⟩, 4), (⟨"OrderMatcherModel", "widest", "(I)I"⟩, 4)]
theorem lw_r1 : ∀ q ∈ lw_privs_1, lw_okq q := List.forall_mem_cons.mpr ⟨lw_p0, List.forall_mem_cons.mpr ⟨lw_p1, List.forall_mem_cons.mpr ⟨lw_p2, List.forall_mem_cons.mpr ⟨lw_p3, List.forall_mem_cons.mpr ⟨lw_p4, List.forall_mem_cons.mpr ⟨lw_p5, List.forall_mem_cons.mpr ⟨lw_p6, List.forall_mem_cons.mpr ⟨lw_p7, List.forall_mem_cons.mpr ⟨lw_p8, List.forall_mem_cons.mpr ⟨lw_p9, List.forall_mem_cons.mpr ⟨lw_p10, List.forall_mem_cons.mpr ⟨lw_p11, fun _ h => absurd h List.not_mem_nil⟩⟩⟩⟩⟩⟩⟩⟩⟩⟩⟩⟩
def lw_privs : List (MethodName × Nat) := lw_privs_1
def lw_tbl : List Cond := k2_sels lw_privs ++ tables_1
theorem lw_privs_ok : ∀ q ∈ lw_privs, lw_okq q := lw_r1
-- ===== ONE list of words for every method: the tables' words that hold all through a run =====
def lw_all : List Cond := lw_tbl.filter goodWord
/-- a word of the tables by its place: claim/WORDS.tsv -/
theorem lw_w {w : Cond} (i : Nat) (h : lw_tbl[i]? = some w) (g : goodWord w = true) : w ∈ lw_all := List.mem_filter.mpr ⟨List.mem_of_getElem? h, g⟩
theorem lw_all_tbl {w : Cond} (h : w ∈ lw_all) : w ∈ lw_tbl := (List.mem_filter.mp h).1
theorem lw_self : GoodIn lw_all lw_all := fun w h => ⟨h, good_of_word (List.mem_filter.mp h).2⟩
/-- a class's field words, by their places -/
theorem lw_in (ws : List Cond) (ps : List Nat) (hp : ws = ps.filterMap (fun i => lw_tbl[i]?)) (hg : ws.all goodWord = true) : ∀ w ∈ ws, w ∈ lw_all := by
  intro w h
  have h1 := List.all_eq_true.mp hg w h
  rw [hp] at h
  obtain ⟨i, -, hi⟩ := List.mem_filterMap.mp h
  exact lw_w i hi h1
/-- the words of a contract for the method y with code b, L locals, answer r -/
abbrev ws_ (y : MethodName) (b : ByteArray) (L : Nat) (r : Option FieldType) : List Cond := Cond.code y b L r :: lw_all
theorem lw_meth {y : MethodName} {b : ByteArray} {L : Nat} {r : Option FieldType} (h : Cond.code y b L r ∈ lw_all) : GoodIn lw_all (ws_ y b L r) := by
  intro w hw
  rcases List.mem_cons.mp hw with e | e
  · rw [e]
    exact lw_self _ h
  · exact lw_self _ e
theorem lw_app {a c : List Cond} (ha : ∀ w ∈ a, w ∈ lw_all) (hc : GoodIn lw_all c) : GoodIn lw_all (a ++ c) := by
  intro w hw
  rcases List.mem_append.mp hw with e | e
  · exact lw_self w (ha w e)
  · exact hc w e
/-- what a call through an object asks: cwV n hts (lw_V ..) -/
theorem lw_V {own : String} {idx : Nat} {C : String} {y : MethodName} {b : ByteArray} {L : Nat} {r : Option FieldType} (h1 : Cond.methodLink own idx y ∈ lw_all) (h2 : Cond.instanceMethod y ∈ lw_all) (h3 : Cond.selects C y y ∈ lw_all) (h4 : Cond.initialized C ∈ lw_all) (h5 : Cond.code y b L r ∈ lw_all) : GoodIn lw_all (wsV own idx C y (ws_ y b L r)) := by
  refine lw_app ?_ (lw_meth h5)
  intro w hw
  simp only [List.mem_cons, List.not_mem_nil, or_false] at hw
  rcases hw with e | e | e | e
  · rw [e]; exact h1
  · rw [e]; exact h2
  · rw [e]; exact h3
  · rw [e]; exact h4
/-- what a static call asks: va_cwS n hts (lw_S ..) -/
theorem lw_S {own : String} {idx : Nat} {y : MethodName} {b : ByteArray} {L : Nat} {r : Option FieldType} (h1 : Cond.methodLink own idx y ∈ lw_all) (h2 : Cond.static y ∈ lw_all) (h3 : Cond.initialized y.cls ∈ lw_all) (h4 : Cond.code y b L r ∈ lw_all) : GoodIn lw_all (va_wsS own idx y (ws_ y b L r)) := by
  refine lw_app ?_ (lw_meth h4)
  intro w hw
  simp only [List.mem_cons, List.not_mem_nil, or_false] at hw
  rcases hw with e | e | e
  · rw [e]; exact h1
  · rw [e]; exact h2
  · rw [e]; exact h3
/-- the words of a contract for a method WITH HANDLERS (hh: its table) -/
abbrev wsW_ (y : MethodName) (b : ByteArray) (L : Nat) (r : Option FieldType) (hh : List (Nat × Nat × Nat × Nat)) : List Cond := Cond.codeWith y b L r hh :: lw_all
theorem lw_methW {y : MethodName} {b : ByteArray} {L : Nat} {r : Option FieldType} {hh : List (Nat × Nat × Nat × Nat)} (h : Cond.codeWith y b L r hh ∈ lw_all) : GoodIn lw_all (wsW_ y b L r hh) := by
  intro w hw
  rcases List.mem_cons.mp hw with e | e
  · rw [e]
    exact lw_self _ h
  · exact lw_self _ e
/-- any list of words by their places (lw_in), good -/
theorem lw_good {ws : List Cond} (h : ∀ w ∈ ws, w ∈ lw_all) : GoodIn lw_all ws := fun w hw => lw_self w (h w hw)
/-- what a call of a method with handlers asks: vx_cwVW n hts (lw_VW ..), vx_cwSW n hts (lw_SW ..) -/
theorem lw_VW {own : String} {idx : Nat} {C : String} {y : MethodName} {b : ByteArray} {L : Nat} {r : Option FieldType} {hh : List (Nat × Nat × Nat × Nat)} (h1 : Cond.methodLink own idx y ∈ lw_all) (h2 : Cond.instanceMethod y ∈ lw_all) (h3 : Cond.selects C y y ∈ lw_all) (h4 : Cond.initialized C ∈ lw_all) (h5 : Cond.codeWith y b L r hh ∈ lw_all) : GoodIn lw_all (wsV own idx C y (wsW_ y b L r hh)) := by
  refine lw_app ?_ (lw_methW h5)
  intro w hw
  simp only [List.mem_cons, List.not_mem_nil, or_false] at hw
  rcases hw with e | e | e | e
  · rw [e]; exact h1
  · rw [e]; exact h2
  · rw [e]; exact h3
  · rw [e]; exact h4
theorem lw_SW {own : String} {idx : Nat} {y : MethodName} {b : ByteArray} {L : Nat} {r : Option FieldType} {hh : List (Nat × Nat × Nat × Nat)} (h1 : Cond.methodLink own idx y ∈ lw_all) (h2 : Cond.static y ∈ lw_all) (h3 : Cond.initialized y.cls ∈ lw_all) (h4 : Cond.codeWith y b L r hh ∈ lw_all) : GoodIn lw_all (va_wsS own idx y (wsW_ y b L r hh)) := by
  refine lw_app ?_ (lw_methW h4)
  intro w hw
  simp only [List.mem_cons, List.not_mem_nil, or_false] at hw
  rcases hw with e | e | e
  · rw [e]; exact h1
  · rw [e]; exact h2
  · rw [e]; exact h3
/-- a word by its place in its run of the tables -/
theorem lw_at {r : List Cond} (hr : ∀ w ∈ r, w ∈ lw_tbl) {w : Cond} (i : Nat) (h : r[i]? = some w) : w ∈ lw_tbl := hr w (List.mem_of_getElem? h)
theorem lw_g {w : Cond} (h : w ∈ lw_tbl) (g : goodWord w = true) : w ∈ lw_all := List.mem_filter.mpr ⟨h, g⟩
theorem lw_ms : ∀ w ∈ k2_sels lw_privs, w ∈ lw_tbl := fun w h => show w ∈ k2_sels lw_privs ++ tables_1 from List.mem_append_left _ h
theorem lw_m1 : ∀ w ∈ tables_1_1, w ∈ lw_tbl := fun w h => show w ∈ k2_sels lw_privs ++ tables_1 from List.mem_append_right (k2_sels lw_privs) (show w ∈ tables_1 from List.mem_append_left _ h)
theorem lw_m2 : ∀ w ∈ tables_1_2, w ∈ lw_tbl := fun w h => show w ∈ k2_sels lw_privs ++ tables_1 from List.mem_append_right (k2_sels lw_privs) (show w ∈ tables_1 from List.mem_append_right _ h)
theorem qs0 : (Cond.selects "OrderMatcher" ⟨"OrderMatcher", "changed", "()V"⟩ ⟨"OrderMatcher", "changed", "()V"⟩) ∈ lw_all := lw_g (lw_at lw_ms 0 rfl) rfl
theorem qs1 : (Cond.selects "OrderMatcher" ⟨"OrderMatcher", "refresh", "()V"⟩ ⟨"OrderMatcher", "refresh", "()V"⟩) ∈ lw_all := lw_g (lw_at lw_ms 1 rfl) rfl
theorem qs2 : (Cond.selects "OrderMatcher" ⟨"OrderMatcher", "code", "()V"⟩ ⟨"OrderMatcher", "code", "()V"⟩) ∈ lw_all := lw_g (lw_at lw_ms 2 rfl) rfl
theorem qs3 : (Cond.selects "OrderMatcher" ⟨"OrderMatcher", "findNeighbours", "(I)V"⟩ ⟨"OrderMatcher", "findNeighbours", "(I)V"⟩) ∈ lw_all := lw_g (lw_at lw_ms 3 rfl) rfl
theorem qs4 : (Cond.selects "OrderMatcher" ⟨"OrderMatcher", "fitsPattern", "(II)Z"⟩ ⟨"OrderMatcher", "fitsPattern", "(II)Z"⟩) ∈ lw_all := lw_g (lw_at lw_ms 4 rfl) rfl
theorem qs5 : (Cond.selects "OrderMatcher" ⟨"OrderMatcher", "compares", "(IIII)Z"⟩ ⟨"OrderMatcher", "compares", "(IIII)Z"⟩) ∈ lw_all := lw_g (lw_at lw_ms 5 rfl) rfl
theorem qs6 : (Cond.selects "OrderMatcher" ⟨"OrderMatcher", "fitsText", "(II)Z"⟩ ⟨"OrderMatcher", "fitsText", "(II)Z"⟩) ∈ lw_all := lw_g (lw_at lw_ms 6 rfl) rfl
theorem qs7 : (Cond.selects "OrderMatcher" ⟨"OrderMatcher", "endsAt", "(I)Z"⟩ ⟨"OrderMatcher", "endsAt", "(I)Z"⟩) ∈ lw_all := lw_g (lw_at lw_ms 7 rfl) rfl
theorem qs8 : (Cond.selects "OrderMatcherModel" ⟨"OrderMatcherModel", "occurs", "(I)Z"⟩ ⟨"OrderMatcherModel", "occurs", "(I)Z"⟩) ∈ lw_all := lw_g (lw_at lw_ms 8 rfl) rfl
theorem qs9 : (Cond.selects "OrderMatcherModel" ⟨"OrderMatcherModel", "alike", "(III)Z"⟩ ⟨"OrderMatcherModel", "alike", "(III)Z"⟩) ∈ lw_all := lw_g (lw_at lw_ms 9 rfl) rfl
theorem qs10 : (Cond.selects "OrderMatcherModel" ⟨"OrderMatcherModel", "order", "(II)I"⟩ ⟨"OrderMatcherModel", "order", "(II)I"⟩) ∈ lw_all := lw_g (lw_at lw_ms 10 rfl) rfl
theorem qs11 : (Cond.selects "OrderMatcherModel" ⟨"OrderMatcherModel", "widest", "(I)I"⟩ ⟨"OrderMatcherModel", "widest", "(I)I"⟩) ∈ lw_all := lw_g (lw_at lw_ms 11 rfl) rfl
end
section
/-! java/lang/Object -/
set_option maxRecDepth 100000
def RJ0 : String := "java/lang/Object"
abbrev cJ0_init : ByteArray := object_method_1_code
def yJ0_init : MethodName := ⟨RJ0, "<init>", "()V"⟩
theorem dJ0_init_0 : decode cJ0_init 0 = .ok (.return_, 1) := by decide +kernel
theorem q21 : (Jvm.Cond.instanceMethod ({ cls := "java/lang/Object", name := "<init>", desc := "()V" } : Jvm.MethodName)) ∈ lw_all := lw_g (lw_at lw_m1 9 rfl) rfl
theorem q22 : (Jvm.Cond.code ({ cls := "java/lang/Object", name := "<init>", desc := "()V" } : Jvm.MethodName) object_method_1_code (1 : Nat) (Option.none : Option Jvm.ClassFile.FieldType)) ∈ lw_all := lw_g (lw_at lw_m1 10 rfl) rfl
/-! OrderMatcher -/
set_option maxRecDepth 100000
def RX0 : String := "OrderMatcher"
def TX0 : u_T := fun k => match k with
  | 0 => ("OrderMatcher", "text", "[I", true)
  | 1 => ("OrderMatcher", "matched", "[I", true)
  | 2 => ("OrderMatcher", "pattern", "[I", true)
  | 3 => ("OrderMatcher", "below", "[I", true)
  | 4 => ("OrderMatcher", "above", "[I", true)
  | 5 => ("OrderMatcher", "failure", "[I", true)
  | 6 => ("OrderMatcher", "length", "I", false)
  | 7 => ("OrderMatcher", "size", "I", false)
  | 8 => ("OrderMatcher", "known", "I", false)
  | _ => ("OrderMatcher", "coded", "Z", false)
def tyX0 : Nat → FieldType := fun k => match k with
  | 0 => .array .int
  | 1 => .array .int
  | 2 => .array .int
  | 3 => .array .int
  | 4 => .array .int
  | 5 => .array .int
  | 6 => .int
  | 7 => .int
  | 8 => .int
  | _ => .boolean
abbrev wsX00 : List Cond := u_ws RX0 TX0 10
theorem nmX0 : ∀ a, a < 10 → ∀ b, b < 10 → a ≠ b → (TX0 a).2.1 ≠ (TX0 b).2.1 := by decide +kernel
theorem tyX0_ok : ∀ k, k < 10 → parseFieldDescriptor (TX0 k).2.2.1 = some (tyX0 k) := by decide +kernel
abbrev cX0_init : ByteArray := prog_1_method_1_code
def yX0_init : MethodName := ⟨RX0, "<init>", "()V"⟩
theorem dX0_init_0 : decode cX0_init 0 = .ok (.aload_n 0, 1) := by decide +kernel
theorem dX0_init_1 : decode cX0_init 1 = .ok (.invokespecial 1, 3) := by decide +kernel
theorem dX0_init_4 : decode cX0_init 4 = .ok (.aload_n 0, 1) := by decide +kernel
theorem dX0_init_5 : decode cX0_init 5 = .ok (.bipush 60, 2) := by decide +kernel
theorem dX0_init_7 : decode cX0_init 7 = .ok (.newarray .int, 2) := by decide +kernel
theorem dX0_init_9 : decode cX0_init 9 = .ok (.putfield 7, 3) := by decide +kernel
theorem dX0_init_12 : decode cX0_init 12 = .ok (.aload_n 0, 1) := by decide +kernel
theorem dX0_init_13 : decode cX0_init 13 = .ok (.bipush 60, 2) := by decide +kernel
theorem dX0_init_15 : decode cX0_init 15 = .ok (.newarray .int, 2) := by decide +kernel
theorem dX0_init_17 : decode cX0_init 17 = .ok (.putfield 13, 3) := by decide +kernel
theorem dX0_init_20 : decode cX0_init 20 = .ok (.aload_n 0, 1) := by decide +kernel
theorem dX0_init_21 : decode cX0_init 21 = .ok (.bipush 10, 2) := by decide +kernel
theorem dX0_init_23 : decode cX0_init 23 = .ok (.newarray .int, 2) := by decide +kernel
theorem dX0_init_25 : decode cX0_init 25 = .ok (.putfield 16, 3) := by decide +kernel
theorem dX0_init_28 : decode cX0_init 28 = .ok (.aload_n 0, 1) := by decide +kernel
theorem dX0_init_29 : decode cX0_init 29 = .ok (.bipush 10, 2) := by decide +kernel
theorem dX0_init_31 : decode cX0_init 31 = .ok (.newarray .int, 2) := by decide +kernel
theorem dX0_init_33 : decode cX0_init 33 = .ok (.putfield 19, 3) := by decide +kernel
theorem dX0_init_36 : decode cX0_init 36 = .ok (.aload_n 0, 1) := by decide +kernel
theorem dX0_init_37 : decode cX0_init 37 = .ok (.bipush 10, 2) := by decide +kernel
theorem dX0_init_39 : decode cX0_init 39 = .ok (.newarray .int, 2) := by decide +kernel
theorem dX0_init_41 : decode cX0_init 41 = .ok (.putfield 22, 3) := by decide +kernel
theorem dX0_init_44 : decode cX0_init 44 = .ok (.aload_n 0, 1) := by decide +kernel
theorem dX0_init_45 : decode cX0_init 45 = .ok (.bipush 11, 2) := by decide +kernel
theorem dX0_init_47 : decode cX0_init 47 = .ok (.newarray .int, 2) := by decide +kernel
theorem dX0_init_49 : decode cX0_init 49 = .ok (.putfield 25, 3) := by decide +kernel
theorem dX0_init_52 : decode cX0_init 52 = .ok (.aload_n 0, 1) := by decide +kernel
theorem dX0_init_53 : decode cX0_init 53 = .ok (.iconst 0, 1) := by decide +kernel
theorem dX0_init_54 : decode cX0_init 54 = .ok (.putfield 28, 3) := by decide +kernel
theorem dX0_init_57 : decode cX0_init 57 = .ok (.return_, 1) := by decide +kernel
abbrev cX0_pattern : ByteArray := prog_1_method_2_code
def yX0_pattern : MethodName := ⟨RX0, "pattern", "(I)I"⟩
theorem dX0_pattern_0 : decode cX0_pattern 0 = .ok (.aload_n 0, 1) := by decide +kernel
theorem dX0_pattern_1 : decode cX0_pattern 1 = .ok (.getfield 32, 3) := by decide +kernel
theorem dX0_pattern_4 : decode cX0_pattern 4 = .ok (.bipush 10, 2) := by decide +kernel
theorem dX0_pattern_6 : decode cX0_pattern 6 = .ok (.if_icmp .ne 5, 3) := by decide +kernel
theorem dX0_pattern_9 : decode cX0_pattern 9 = .ok (.iconst (-1), 1) := by decide +kernel
theorem dX0_pattern_10 : decode cX0_pattern 10 = .ok (.ireturn, 1) := by decide +kernel
theorem dX0_pattern_11 : decode cX0_pattern 11 = .ok (.aload_n 0, 1) := by decide +kernel
theorem dX0_pattern_12 : decode cX0_pattern 12 = .ok (.getfield 16, 3) := by decide +kernel
theorem dX0_pattern_15 : decode cX0_pattern 15 = .ok (.aload_n 0, 1) := by decide +kernel
theorem dX0_pattern_16 : decode cX0_pattern 16 = .ok (.getfield 32, 3) := by decide +kernel
theorem dX0_pattern_19 : decode cX0_pattern 19 = .ok (.iload_n 1, 1) := by decide +kernel
theorem dX0_pattern_20 : decode cX0_pattern 20 = .ok (.iastore, 1) := by decide +kernel
theorem dX0_pattern_21 : decode cX0_pattern 21 = .ok (.aload_n 0, 1) := by decide +kernel
theorem dX0_pattern_22 : decode cX0_pattern 22 = .ok (.dup, 1) := by decide +kernel
theorem dX0_pattern_23 : decode cX0_pattern 23 = .ok (.getfield 32, 3) := by decide +kernel
theorem dX0_pattern_26 : decode cX0_pattern 26 = .ok (.iconst 1, 1) := by decide +kernel
theorem dX0_pattern_27 : decode cX0_pattern 27 = .ok (.iadd, 1) := by decide +kernel
theorem dX0_pattern_28 : decode cX0_pattern 28 = .ok (.putfield 32, 3) := by decide +kernel
theorem dX0_pattern_31 : decode cX0_pattern 31 = .ok (.aload_n 0, 1) := by decide +kernel
theorem dX0_pattern_32 : decode cX0_pattern 32 = .ok (.invokevirtual 36, 3) := by decide +kernel
theorem dX0_pattern_35 : decode cX0_pattern 35 = .ok (.aload_n 0, 1) := by decide +kernel
theorem dX0_pattern_36 : decode cX0_pattern 36 = .ok (.getfield 32, 3) := by decide +kernel
theorem dX0_pattern_39 : decode cX0_pattern 39 = .ok (.ireturn, 1) := by decide +kernel
abbrev cX0_changed : ByteArray := prog_1_method_22_code
def yX0_changed : MethodName := ⟨RX0, "changed", "()V"⟩
theorem dX0_changed_0 : decode cX0_changed 0 = .ok (.aload_n 0, 1) := by decide +kernel
theorem dX0_changed_1 : decode cX0_changed 1 = .ok (.iconst 0, 1) := by decide +kernel
theorem dX0_changed_2 : decode cX0_changed 2 = .ok (.putfield 28, 3) := by decide +kernel
theorem dX0_changed_5 : decode cX0_changed 5 = .ok (.aload_n 0, 1) := by decide +kernel
theorem dX0_changed_6 : decode cX0_changed 6 = .ok (.iconst 0, 1) := by decide +kernel
theorem dX0_changed_7 : decode cX0_changed 7 = .ok (.putfield 42, 3) := by decide +kernel
theorem dX0_changed_10 : decode cX0_changed 10 = .ok (.return_, 1) := by decide +kernel
abbrev cX0_clearPattern : ByteArray := prog_1_method_3_code
def yX0_clearPattern : MethodName := ⟨RX0, "clearPattern", "()I"⟩
theorem dX0_clearPattern_0 : decode cX0_clearPattern 0 = .ok (.aload_n 0, 1) := by decide +kernel
theorem dX0_clearPattern_1 : decode cX0_clearPattern 1 = .ok (.getfield 32, 3) := by decide +kernel
theorem dX0_clearPattern_4 : decode cX0_clearPattern 4 = .ok (.istore_n 1, 1) := by decide +kernel
theorem dX0_clearPattern_5 : decode cX0_clearPattern 5 = .ok (.aload_n 0, 1) := by decide +kernel
theorem dX0_clearPattern_6 : decode cX0_clearPattern 6 = .ok (.iconst 0, 1) := by decide +kernel
theorem dX0_clearPattern_7 : decode cX0_clearPattern 7 = .ok (.putfield 32, 3) := by decide +kernel
theorem dX0_clearPattern_10 : decode cX0_clearPattern 10 = .ok (.aload_n 0, 1) := by decide +kernel
theorem dX0_clearPattern_11 : decode cX0_clearPattern 11 = .ok (.invokevirtual 36, 3) := by decide +kernel
theorem dX0_clearPattern_14 : decode cX0_clearPattern 14 = .ok (.iload_n 1, 1) := by decide +kernel
theorem dX0_clearPattern_15 : decode cX0_clearPattern 15 = .ok (.ireturn, 1) := by decide +kernel
abbrev cX0_take : ByteArray := prog_1_method_4_code
def yX0_take : MethodName := ⟨RX0, "take", "(II)I"⟩
theorem dX0_take_0 : decode cX0_take 0 = .ok (.iload_n 2, 1) := by decide +kernel
theorem dX0_take_1 : decode cX0_take 1 = .ok (.ifCond .lt 9, 3) := by decide +kernel
theorem dX0_take_4 : decode cX0_take 4 = .ok (.iload_n 2, 1) := by decide +kernel
theorem dX0_take_5 : decode cX0_take 5 = .ok (.bipush 10, 2) := by decide +kernel
theorem dX0_take_7 : decode cX0_take 7 = .ok (.if_icmp .le 5, 3) := by decide +kernel
theorem dX0_take_10 : decode cX0_take 10 = .ok (.iconst (-1), 1) := by decide +kernel
theorem dX0_take_11 : decode cX0_take 11 = .ok (.ireturn, 1) := by decide +kernel
theorem dX0_take_12 : decode cX0_take 12 = .ok (.iload_n 1, 1) := by decide +kernel
theorem dX0_take_13 : decode cX0_take 13 = .ok (.ifCond .lt 13, 3) := by decide +kernel
theorem dX0_take_16 : decode cX0_take 16 = .ok (.iload_n 1, 1) := by decide +kernel
theorem dX0_take_17 : decode cX0_take 17 = .ok (.aload_n 0, 1) := by decide +kernel
theorem dX0_take_18 : decode cX0_take 18 = .ok (.getfield 39, 3) := by decide +kernel
theorem dX0_take_21 : decode cX0_take 21 = .ok (.iload_n 2, 1) := by decide +kernel
theorem dX0_take_22 : decode cX0_take 22 = .ok (.isub, 1) := by decide +kernel
theorem dX0_take_23 : decode cX0_take 23 = .ok (.if_icmp .le 6, 3) := by decide +kernel
theorem dX0_take_26 : decode cX0_take 26 = .ok (.bipush (-2), 2) := by decide +kernel
theorem dX0_take_28 : decode cX0_take 28 = .ok (.ireturn, 1) := by decide +kernel
theorem dX0_take_29 : decode cX0_take 29 = .ok (.iconst 0, 1) := by decide +kernel
theorem dX0_take_30 : decode cX0_take 30 = .ok (.istore_n 3, 1) := by decide +kernel
theorem dX0_take_31 : decode cX0_take 31 = .ok (.iload_n 3, 1) := by decide +kernel
theorem dX0_take_32 : decode cX0_take 32 = .ok (.iload_n 2, 1) := by decide +kernel
theorem dX0_take_33 : decode cX0_take 33 = .ok (.if_icmp .ge 23, 3) := by decide +kernel
theorem dX0_take_36 : decode cX0_take 36 = .ok (.aload_n 0, 1) := by decide +kernel
theorem dX0_take_37 : decode cX0_take 37 = .ok (.getfield 16, 3) := by decide +kernel
theorem dX0_take_40 : decode cX0_take 40 = .ok (.iload_n 3, 1) := by decide +kernel
theorem dX0_take_41 : decode cX0_take 41 = .ok (.aload_n 0, 1) := by decide +kernel
theorem dX0_take_42 : decode cX0_take 42 = .ok (.getfield 7, 3) := by decide +kernel
theorem dX0_take_45 : decode cX0_take 45 = .ok (.iload_n 1, 1) := by decide +kernel
theorem dX0_take_46 : decode cX0_take 46 = .ok (.iload_n 3, 1) := by decide +kernel
theorem dX0_take_47 : decode cX0_take 47 = .ok (.iadd, 1) := by decide +kernel
theorem dX0_take_48 : decode cX0_take 48 = .ok (.iaload, 1) := by decide +kernel
theorem dX0_take_49 : decode cX0_take 49 = .ok (.iastore, 1) := by decide +kernel
theorem dX0_take_50 : decode cX0_take 50 = .ok (.iinc 3 1, 3) := by decide +kernel
theorem dX0_take_53 : decode cX0_take 53 = .ok (.goto (-22), 3) := by decide +kernel
theorem dX0_take_56 : decode cX0_take 56 = .ok (.aload_n 0, 1) := by decide +kernel
theorem dX0_take_57 : decode cX0_take 57 = .ok (.iload_n 2, 1) := by decide +kernel
theorem dX0_take_58 : decode cX0_take 58 = .ok (.putfield 32, 3) := by decide +kernel
theorem dX0_take_61 : decode cX0_take 61 = .ok (.aload_n 0, 1) := by decide +kernel
theorem dX0_take_62 : decode cX0_take 62 = .ok (.invokevirtual 36, 3) := by decide +kernel
theorem dX0_take_65 : decode cX0_take 65 = .ok (.iload_n 2, 1) := by decide +kernel
theorem dX0_take_66 : decode cX0_take 66 = .ok (.ireturn, 1) := by decide +kernel
abbrev cX0_feed : ByteArray := prog_1_method_5_code
def yX0_feed : MethodName := ⟨RX0, "feed", "(I)I"⟩
theorem dX0_feed_0 : decode cX0_feed 0 = .ok (.aload_n 0, 1) := by decide +kernel
theorem dX0_feed_1 : decode cX0_feed 1 = .ok (.getfield 39, 3) := by decide +kernel
theorem dX0_feed_4 : decode cX0_feed 4 = .ok (.bipush 60, 2) := by decide +kernel
theorem dX0_feed_6 : decode cX0_feed 6 = .ok (.if_icmp .ne 5, 3) := by decide +kernel
theorem dX0_feed_9 : decode cX0_feed 9 = .ok (.iconst (-1), 1) := by decide +kernel
theorem dX0_feed_10 : decode cX0_feed 10 = .ok (.ireturn, 1) := by decide +kernel
theorem dX0_feed_11 : decode cX0_feed 11 = .ok (.aload_n 0, 1) := by decide +kernel
theorem dX0_feed_12 : decode cX0_feed 12 = .ok (.getfield 7, 3) := by decide +kernel
theorem dX0_feed_15 : decode cX0_feed 15 = .ok (.aload_n 0, 1) := by decide +kernel
theorem dX0_feed_16 : decode cX0_feed 16 = .ok (.getfield 39, 3) := by decide +kernel
theorem dX0_feed_19 : decode cX0_feed 19 = .ok (.iload_n 1, 1) := by decide +kernel
theorem dX0_feed_20 : decode cX0_feed 20 = .ok (.iastore, 1) := by decide +kernel
theorem dX0_feed_21 : decode cX0_feed 21 = .ok (.aload_n 0, 1) := by decide +kernel
theorem dX0_feed_22 : decode cX0_feed 22 = .ok (.dup, 1) := by decide +kernel
theorem dX0_feed_23 : decode cX0_feed 23 = .ok (.getfield 39, 3) := by decide +kernel
theorem dX0_feed_26 : decode cX0_feed 26 = .ok (.iconst 1, 1) := by decide +kernel
theorem dX0_feed_27 : decode cX0_feed 27 = .ok (.iadd, 1) := by decide +kernel
theorem dX0_feed_28 : decode cX0_feed 28 = .ok (.putfield 39, 3) := by decide +kernel
theorem dX0_feed_31 : decode cX0_feed 31 = .ok (.aload_n 0, 1) := by decide +kernel
theorem dX0_feed_32 : decode cX0_feed 32 = .ok (.getfield 39, 3) := by decide +kernel
theorem dX0_feed_35 : decode cX0_feed 35 = .ok (.ireturn, 1) := by decide +kernel
abbrev cX0_ramp : ByteArray := prog_1_method_6_code
def yX0_ramp : MethodName := ⟨RX0, "ramp", "(III)I"⟩
theorem dX0_ramp_0 : decode cX0_ramp 0 = .ok (.iload_n 3, 1) := by decide +kernel
theorem dX0_ramp_1 : decode cX0_ramp 1 = .ok (.iconst 1, 1) := by decide +kernel
theorem dX0_ramp_2 : decode cX0_ramp 2 = .ok (.if_icmp .lt 9, 3) := by decide +kernel
theorem dX0_ramp_5 : decode cX0_ramp 5 = .ok (.iload_n 3, 1) := by decide +kernel
theorem dX0_ramp_6 : decode cX0_ramp 6 = .ok (.bipush 60, 2) := by decide +kernel
theorem dX0_ramp_8 : decode cX0_ramp 8 = .ok (.if_icmp .le 5, 3) := by decide +kernel
theorem dX0_ramp_11 : decode cX0_ramp 11 = .ok (.iconst (-1), 1) := by decide +kernel
theorem dX0_ramp_12 : decode cX0_ramp 12 = .ok (.ireturn, 1) := by decide +kernel
theorem dX0_ramp_13 : decode cX0_ramp 13 = .ok (.aload_n 0, 1) := by decide +kernel
theorem dX0_ramp_14 : decode cX0_ramp 14 = .ok (.getfield 39, 3) := by decide +kernel
theorem dX0_ramp_17 : decode cX0_ramp 17 = .ok (.iload_n 3, 1) := by decide +kernel
theorem dX0_ramp_18 : decode cX0_ramp 18 = .ok (.iadd, 1) := by decide +kernel
theorem dX0_ramp_19 : decode cX0_ramp 19 = .ok (.bipush 60, 2) := by decide +kernel
theorem dX0_ramp_21 : decode cX0_ramp 21 = .ok (.if_icmp .le 6, 3) := by decide +kernel
theorem dX0_ramp_24 : decode cX0_ramp 24 = .ok (.bipush (-2), 2) := by decide +kernel
theorem dX0_ramp_26 : decode cX0_ramp 26 = .ok (.ireturn, 1) := by decide +kernel
theorem dX0_ramp_27 : decode cX0_ramp 27 = .ok (.iconst 0, 1) := by decide +kernel
theorem dX0_ramp_28 : decode cX0_ramp 28 = .ok (.istore 4, 2) := by decide +kernel
theorem dX0_ramp_30 : decode cX0_ramp 30 = .ok (.iload 4, 2) := by decide +kernel
theorem dX0_ramp_32 : decode cX0_ramp 32 = .ok (.iload_n 3, 1) := by decide +kernel
theorem dX0_ramp_33 : decode cX0_ramp 33 = .ok (.if_icmp .ge 27, 3) := by decide +kernel
theorem dX0_ramp_36 : decode cX0_ramp 36 = .ok (.aload_n 0, 1) := by decide +kernel
theorem dX0_ramp_37 : decode cX0_ramp 37 = .ok (.getfield 7, 3) := by decide +kernel
theorem dX0_ramp_40 : decode cX0_ramp 40 = .ok (.aload_n 0, 1) := by decide +kernel
theorem dX0_ramp_41 : decode cX0_ramp 41 = .ok (.getfield 39, 3) := by decide +kernel
theorem dX0_ramp_44 : decode cX0_ramp 44 = .ok (.iload 4, 2) := by decide +kernel
theorem dX0_ramp_46 : decode cX0_ramp 46 = .ok (.iadd, 1) := by decide +kernel
theorem dX0_ramp_47 : decode cX0_ramp 47 = .ok (.iload_n 1, 1) := by decide +kernel
theorem dX0_ramp_48 : decode cX0_ramp 48 = .ok (.iload 4, 2) := by decide +kernel
theorem dX0_ramp_50 : decode cX0_ramp 50 = .ok (.iload_n 2, 1) := by decide +kernel
theorem dX0_ramp_51 : decode cX0_ramp 51 = .ok (.imul, 1) := by decide +kernel
theorem dX0_ramp_52 : decode cX0_ramp 52 = .ok (.iadd, 1) := by decide +kernel
theorem dX0_ramp_53 : decode cX0_ramp 53 = .ok (.iastore, 1) := by decide +kernel
theorem dX0_ramp_54 : decode cX0_ramp 54 = .ok (.iinc 4 1, 3) := by decide +kernel
theorem dX0_ramp_57 : decode cX0_ramp 57 = .ok (.goto (-27), 3) := by decide +kernel
theorem dX0_ramp_60 : decode cX0_ramp 60 = .ok (.aload_n 0, 1) := by decide +kernel
theorem dX0_ramp_61 : decode cX0_ramp 61 = .ok (.dup, 1) := by decide +kernel
theorem dX0_ramp_62 : decode cX0_ramp 62 = .ok (.getfield 39, 3) := by decide +kernel
theorem dX0_ramp_65 : decode cX0_ramp 65 = .ok (.iload_n 3, 1) := by decide +kernel
theorem dX0_ramp_66 : decode cX0_ramp 66 = .ok (.iadd, 1) := by decide +kernel
theorem dX0_ramp_67 : decode cX0_ramp 67 = .ok (.putfield 39, 3) := by decide +kernel
theorem dX0_ramp_70 : decode cX0_ramp 70 = .ok (.aload_n 0, 1) := by decide +kernel
theorem dX0_ramp_71 : decode cX0_ramp 71 = .ok (.getfield 39, 3) := by decide +kernel
theorem dX0_ramp_74 : decode cX0_ramp 74 = .ok (.ireturn, 1) := by decide +kernel
abbrev cX0_echo : ByteArray := prog_1_method_7_code
def yX0_echo : MethodName := ⟨RX0, "echo", "(III)I"⟩
theorem dX0_echo_0 : decode cX0_echo 0 = .ok (.iload_n 1, 1) := by decide +kernel
theorem dX0_echo_1 : decode cX0_echo 1 = .ok (.bipush 6, 2) := by decide +kernel
theorem dX0_echo_3 : decode cX0_echo 3 = .ok (.ishr, 1) := by decide +kernel
theorem dX0_echo_4 : decode cX0_echo 4 = .ok (.istore 4, 2) := by decide +kernel
theorem dX0_echo_6 : decode cX0_echo 6 = .ok (.iload_n 1, 1) := by decide +kernel
theorem dX0_echo_7 : decode cX0_echo 7 = .ok (.bipush 63, 2) := by decide +kernel
theorem dX0_echo_9 : decode cX0_echo 9 = .ok (.iand, 1) := by decide +kernel
theorem dX0_echo_10 : decode cX0_echo 10 = .ok (.istore 5, 2) := by decide +kernel
theorem dX0_echo_12 : decode cX0_echo 12 = .ok (.iload 4, 2) := by decide +kernel
theorem dX0_echo_14 : decode cX0_echo 14 = .ok (.iconst 1, 1) := by decide +kernel
theorem dX0_echo_15 : decode cX0_echo 15 = .ok (.if_icmp .lt 10, 3) := by decide +kernel
theorem dX0_echo_18 : decode cX0_echo 18 = .ok (.iload 4, 2) := by decide +kernel
theorem dX0_echo_20 : decode cX0_echo 20 = .ok (.bipush 20, 2) := by decide +kernel
theorem dX0_echo_22 : decode cX0_echo 22 = .ok (.if_icmp .le 5, 3) := by decide +kernel
theorem dX0_echo_25 : decode cX0_echo 25 = .ok (.iconst (-1), 1) := by decide +kernel
theorem dX0_echo_26 : decode cX0_echo 26 = .ok (.ireturn, 1) := by decide +kernel
theorem dX0_echo_27 : decode cX0_echo 27 = .ok (.iload 5, 2) := by decide +kernel
theorem dX0_echo_29 : decode cX0_echo 29 = .ok (.aload_n 0, 1) := by decide +kernel
theorem dX0_echo_30 : decode cX0_echo 30 = .ok (.getfield 39, 3) := by decide +kernel
theorem dX0_echo_33 : decode cX0_echo 33 = .ok (.iload 4, 2) := by decide +kernel
theorem dX0_echo_35 : decode cX0_echo 35 = .ok (.isub, 1) := by decide +kernel
theorem dX0_echo_36 : decode cX0_echo 36 = .ok (.if_icmp .le 6, 3) := by decide +kernel
theorem dX0_echo_39 : decode cX0_echo 39 = .ok (.bipush (-2), 2) := by decide +kernel
theorem dX0_echo_41 : decode cX0_echo 41 = .ok (.ireturn, 1) := by decide +kernel
theorem dX0_echo_42 : decode cX0_echo 42 = .ok (.aload_n 0, 1) := by decide +kernel
theorem dX0_echo_43 : decode cX0_echo 43 = .ok (.getfield 39, 3) := by decide +kernel
theorem dX0_echo_46 : decode cX0_echo 46 = .ok (.iload 4, 2) := by decide +kernel
theorem dX0_echo_48 : decode cX0_echo 48 = .ok (.iadd, 1) := by decide +kernel
theorem dX0_echo_49 : decode cX0_echo 49 = .ok (.bipush 60, 2) := by decide +kernel
theorem dX0_echo_51 : decode cX0_echo 51 = .ok (.if_icmp .le 6, 3) := by decide +kernel
theorem dX0_echo_54 : decode cX0_echo 54 = .ok (.bipush (-3), 2) := by decide +kernel
theorem dX0_echo_56 : decode cX0_echo 56 = .ok (.ireturn, 1) := by decide +kernel
theorem dX0_echo_57 : decode cX0_echo 57 = .ok (.iconst 0, 1) := by decide +kernel
theorem dX0_echo_58 : decode cX0_echo 58 = .ok (.istore 6, 2) := by decide +kernel
theorem dX0_echo_60 : decode cX0_echo 60 = .ok (.iload 6, 2) := by decide +kernel
theorem dX0_echo_62 : decode cX0_echo 62 = .ok (.iload 4, 2) := by decide +kernel
theorem dX0_echo_64 : decode cX0_echo 64 = .ok (.if_icmp .ge 35, 3) := by decide +kernel
theorem dX0_echo_67 : decode cX0_echo 67 = .ok (.aload_n 0, 1) := by decide +kernel
theorem dX0_echo_68 : decode cX0_echo 68 = .ok (.getfield 7, 3) := by decide +kernel
theorem dX0_echo_71 : decode cX0_echo 71 = .ok (.aload_n 0, 1) := by decide +kernel
theorem dX0_echo_72 : decode cX0_echo 72 = .ok (.getfield 39, 3) := by decide +kernel
theorem dX0_echo_75 : decode cX0_echo 75 = .ok (.iload 6, 2) := by decide +kernel
theorem dX0_echo_77 : decode cX0_echo 77 = .ok (.iadd, 1) := by decide +kernel
theorem dX0_echo_78 : decode cX0_echo 78 = .ok (.aload_n 0, 1) := by decide +kernel
theorem dX0_echo_79 : decode cX0_echo 79 = .ok (.getfield 7, 3) := by decide +kernel
theorem dX0_echo_82 : decode cX0_echo 82 = .ok (.iload 5, 2) := by decide +kernel
theorem dX0_echo_84 : decode cX0_echo 84 = .ok (.iload 6, 2) := by decide +kernel
theorem dX0_echo_86 : decode cX0_echo 86 = .ok (.iadd, 1) := by decide +kernel
theorem dX0_echo_87 : decode cX0_echo 87 = .ok (.iaload, 1) := by decide +kernel
theorem dX0_echo_88 : decode cX0_echo 88 = .ok (.iload_n 2, 1) := by decide +kernel
theorem dX0_echo_89 : decode cX0_echo 89 = .ok (.imul, 1) := by decide +kernel
theorem dX0_echo_90 : decode cX0_echo 90 = .ok (.iload_n 3, 1) := by decide +kernel
theorem dX0_echo_91 : decode cX0_echo 91 = .ok (.iadd, 1) := by decide +kernel
theorem dX0_echo_92 : decode cX0_echo 92 = .ok (.iastore, 1) := by decide +kernel
theorem dX0_echo_93 : decode cX0_echo 93 = .ok (.iinc 6 1, 3) := by decide +kernel
theorem dX0_echo_96 : decode cX0_echo 96 = .ok (.goto (-36), 3) := by decide +kernel
theorem dX0_echo_99 : decode cX0_echo 99 = .ok (.aload_n 0, 1) := by decide +kernel
theorem dX0_echo_100 : decode cX0_echo 100 = .ok (.dup, 1) := by decide +kernel
theorem dX0_echo_101 : decode cX0_echo 101 = .ok (.getfield 39, 3) := by decide +kernel
theorem dX0_echo_104 : decode cX0_echo 104 = .ok (.iload 4, 2) := by decide +kernel
theorem dX0_echo_106 : decode cX0_echo 106 = .ok (.iadd, 1) := by decide +kernel
theorem dX0_echo_107 : decode cX0_echo 107 = .ok (.putfield 39, 3) := by decide +kernel
theorem dX0_echo_110 : decode cX0_echo 110 = .ok (.aload_n 0, 1) := by decide +kernel
theorem dX0_echo_111 : decode cX0_echo 111 = .ok (.getfield 39, 3) := by decide +kernel
theorem dX0_echo_114 : decode cX0_echo 114 = .ok (.ireturn, 1) := by decide +kernel
abbrev cX0_undo : ByteArray := prog_1_method_8_code
def yX0_undo : MethodName := ⟨RX0, "undo", "(I)I"⟩
theorem dX0_undo_0 : decode cX0_undo 0 = .ok (.iload_n 1, 1) := by decide +kernel
theorem dX0_undo_1 : decode cX0_undo 1 = .ok (.ifCond .lt 11, 3) := by decide +kernel
theorem dX0_undo_4 : decode cX0_undo 4 = .ok (.iload_n 1, 1) := by decide +kernel
theorem dX0_undo_5 : decode cX0_undo 5 = .ok (.aload_n 0, 1) := by decide +kernel
theorem dX0_undo_6 : decode cX0_undo 6 = .ok (.getfield 39, 3) := by decide +kernel
theorem dX0_undo_9 : decode cX0_undo 9 = .ok (.if_icmp .le 5, 3) := by decide +kernel
theorem dX0_undo_12 : decode cX0_undo 12 = .ok (.iconst (-1), 1) := by decide +kernel
theorem dX0_undo_13 : decode cX0_undo 13 = .ok (.ireturn, 1) := by decide +kernel
theorem dX0_undo_14 : decode cX0_undo 14 = .ok (.aload_n 0, 1) := by decide +kernel
theorem dX0_undo_15 : decode cX0_undo 15 = .ok (.dup, 1) := by decide +kernel
theorem dX0_undo_16 : decode cX0_undo 16 = .ok (.getfield 39, 3) := by decide +kernel
theorem dX0_undo_19 : decode cX0_undo 19 = .ok (.iload_n 1, 1) := by decide +kernel
theorem dX0_undo_20 : decode cX0_undo 20 = .ok (.isub, 1) := by decide +kernel
theorem dX0_undo_21 : decode cX0_undo 21 = .ok (.putfield 39, 3) := by decide +kernel
theorem dX0_undo_24 : decode cX0_undo 24 = .ok (.aload_n 0, 1) := by decide +kernel
theorem dX0_undo_25 : decode cX0_undo 25 = .ok (.aload_n 0, 1) := by decide +kernel
theorem dX0_undo_26 : decode cX0_undo 26 = .ok (.getfield 42, 3) := by decide +kernel
theorem dX0_undo_29 : decode cX0_undo 29 = .ok (.aload_n 0, 1) := by decide +kernel
theorem dX0_undo_30 : decode cX0_undo 30 = .ok (.getfield 39, 3) := by decide +kernel
theorem dX0_undo_33 : decode cX0_undo 33 = .ok (.if_icmp .le 10, 3) := by decide +kernel
theorem dX0_undo_36 : decode cX0_undo 36 = .ok (.aload_n 0, 1) := by decide +kernel
theorem dX0_undo_37 : decode cX0_undo 37 = .ok (.getfield 39, 3) := by decide +kernel
theorem dX0_undo_40 : decode cX0_undo 40 = .ok (.goto 7, 3) := by decide +kernel
theorem dX0_undo_43 : decode cX0_undo 43 = .ok (.aload_n 0, 1) := by decide +kernel
theorem dX0_undo_44 : decode cX0_undo 44 = .ok (.getfield 42, 3) := by decide +kernel
theorem dX0_undo_47 : decode cX0_undo 47 = .ok (.putfield 42, 3) := by decide +kernel
theorem dX0_undo_50 : decode cX0_undo 50 = .ok (.aload_n 0, 1) := by decide +kernel
theorem dX0_undo_51 : decode cX0_undo 51 = .ok (.getfield 39, 3) := by decide +kernel
theorem dX0_undo_54 : decode cX0_undo 54 = .ok (.ireturn, 1) := by decide +kernel
abbrev cX0_length : ByteArray := prog_1_method_9_code
def yX0_length : MethodName := ⟨RX0, "length", "()I"⟩
theorem dX0_length_0 : decode cX0_length 0 = .ok (.aload_n 0, 1) := by decide +kernel
theorem dX0_length_1 : decode cX0_length 1 = .ok (.getfield 39, 3) := by decide +kernel
theorem dX0_length_4 : decode cX0_length 4 = .ok (.ireturn, 1) := by decide +kernel
abbrev cX0_patternLength : ByteArray := prog_1_method_10_code
def yX0_patternLength : MethodName := ⟨RX0, "patternLength", "()I"⟩
theorem dX0_patternLength_0 : decode cX0_patternLength 0 = .ok (.aload_n 0, 1) := by decide +kernel
theorem dX0_patternLength_1 : decode cX0_patternLength 1 = .ok (.getfield 32, 3) := by decide +kernel
theorem dX0_patternLength_4 : decode cX0_patternLength 4 = .ok (.ireturn, 1) := by decide +kernel
abbrev cX0_valueAt : ByteArray := prog_1_method_11_code
def yX0_valueAt : MethodName := ⟨RX0, "valueAt", "(I)I"⟩
theorem dX0_valueAt_0 : decode cX0_valueAt 0 = .ok (.iload_n 1, 1) := by decide +kernel
theorem dX0_valueAt_1 : decode cX0_valueAt 1 = .ok (.ifCond .lt 20, 3) := by decide +kernel
theorem dX0_valueAt_4 : decode cX0_valueAt 4 = .ok (.iload_n 1, 1) := by decide +kernel
theorem dX0_valueAt_5 : decode cX0_valueAt 5 = .ok (.aload_n 0, 1) := by decide +kernel
theorem dX0_valueAt_6 : decode cX0_valueAt 6 = .ok (.getfield 39, 3) := by decide +kernel
theorem dX0_valueAt_9 : decode cX0_valueAt 9 = .ok (.if_icmp .ge 12, 3) := by decide +kernel
theorem dX0_valueAt_12 : decode cX0_valueAt 12 = .ok (.aload_n 0, 1) := by decide +kernel
theorem dX0_valueAt_13 : decode cX0_valueAt 13 = .ok (.getfield 7, 3) := by decide +kernel
theorem dX0_valueAt_16 : decode cX0_valueAt 16 = .ok (.iload_n 1, 1) := by decide +kernel
theorem dX0_valueAt_17 : decode cX0_valueAt 17 = .ok (.iaload, 1) := by decide +kernel
theorem dX0_valueAt_18 : decode cX0_valueAt 18 = .ok (.goto 4, 3) := by decide +kernel
theorem dX0_valueAt_21 : decode cX0_valueAt 21 = .ok (.iconst 0, 1) := by decide +kernel
theorem dX0_valueAt_22 : decode cX0_valueAt 22 = .ok (.ireturn, 1) := by decide +kernel
abbrev cX0_occurrences : ByteArray := prog_1_method_12_code
def yX0_occurrences : MethodName := ⟨RX0, "occurrences", "()I"⟩
theorem dX0_occurrences_0 : decode cX0_occurrences 0 = .ok (.aload_n 0, 1) := by decide +kernel
theorem dX0_occurrences_1 : decode cX0_occurrences 1 = .ok (.invokevirtual 45, 3) := by decide +kernel
theorem dX0_occurrences_4 : decode cX0_occurrences 4 = .ok (.iconst 0, 1) := by decide +kernel
theorem dX0_occurrences_5 : decode cX0_occurrences 5 = .ok (.istore_n 1, 1) := by decide +kernel
theorem dX0_occurrences_6 : decode cX0_occurrences 6 = .ok (.iconst 0, 1) := by decide +kernel
theorem dX0_occurrences_7 : decode cX0_occurrences 7 = .ok (.istore_n 2, 1) := by decide +kernel
theorem dX0_occurrences_8 : decode cX0_occurrences 8 = .ok (.iload_n 2, 1) := by decide +kernel
theorem dX0_occurrences_9 : decode cX0_occurrences 9 = .ok (.aload_n 0, 1) := by decide +kernel
theorem dX0_occurrences_10 : decode cX0_occurrences 10 = .ok (.getfield 39, 3) := by decide +kernel
theorem dX0_occurrences_13 : decode cX0_occurrences 13 = .ok (.if_icmp .ge 20, 3) := by decide +kernel
theorem dX0_occurrences_16 : decode cX0_occurrences 16 = .ok (.aload_n 0, 1) := by decide +kernel
theorem dX0_occurrences_17 : decode cX0_occurrences 17 = .ok (.iload_n 2, 1) := by decide +kernel
theorem dX0_occurrences_18 : decode cX0_occurrences 18 = .ok (.invokevirtual 48, 3) := by decide +kernel
theorem dX0_occurrences_21 : decode cX0_occurrences 21 = .ok (.ifCond .eq 6, 3) := by decide +kernel
theorem dX0_occurrences_24 : decode cX0_occurrences 24 = .ok (.iinc 1 1, 3) := by decide +kernel
theorem dX0_occurrences_27 : decode cX0_occurrences 27 = .ok (.iinc 2 1, 3) := by decide +kernel
theorem dX0_occurrences_30 : decode cX0_occurrences 30 = .ok (.goto (-22), 3) := by decide +kernel
theorem dX0_occurrences_33 : decode cX0_occurrences 33 = .ok (.iload_n 1, 1) := by decide +kernel
theorem dX0_occurrences_34 : decode cX0_occurrences 34 = .ok (.ireturn, 1) := by decide +kernel
abbrev cX0_refresh : ByteArray := prog_1_method_28_code
def yX0_refresh : MethodName := ⟨RX0, "refresh", "()V"⟩
theorem dX0_refresh_0 : decode cX0_refresh 0 = .ok (.aload_n 0, 1) := by decide +kernel
theorem dX0_refresh_1 : decode cX0_refresh 1 = .ok (.invokevirtual 52, 3) := by decide +kernel
theorem dX0_refresh_4 : decode cX0_refresh 4 = .ok (.aload_n 0, 1) := by decide +kernel
theorem dX0_refresh_5 : decode cX0_refresh 5 = .ok (.getfield 42, 3) := by decide +kernel
theorem dX0_refresh_8 : decode cX0_refresh 8 = .ok (.istore_n 1, 1) := by decide +kernel
theorem dX0_refresh_9 : decode cX0_refresh 9 = .ok (.iload_n 1, 1) := by decide +kernel
theorem dX0_refresh_10 : decode cX0_refresh 10 = .ok (.aload_n 0, 1) := by decide +kernel
theorem dX0_refresh_11 : decode cX0_refresh 11 = .ok (.getfield 39, 3) := by decide +kernel
theorem dX0_refresh_14 : decode cX0_refresh 14 = .ok (.if_icmp .ge 98, 3) := by decide +kernel
theorem dX0_refresh_17 : decode cX0_refresh 17 = .ok (.iload_n 1, 1) := by decide +kernel
theorem dX0_refresh_18 : decode cX0_refresh 18 = .ok (.ifCond .le 14, 3) := by decide +kernel
theorem dX0_refresh_21 : decode cX0_refresh 21 = .ok (.aload_n 0, 1) := by decide +kernel
theorem dX0_refresh_22 : decode cX0_refresh 22 = .ok (.getfield 13, 3) := by decide +kernel
theorem dX0_refresh_25 : decode cX0_refresh 25 = .ok (.iload_n 1, 1) := by decide +kernel
theorem dX0_refresh_26 : decode cX0_refresh 26 = .ok (.iconst 1, 1) := by decide +kernel
theorem dX0_refresh_27 : decode cX0_refresh 27 = .ok (.isub, 1) := by decide +kernel
theorem dX0_refresh_28 : decode cX0_refresh 28 = .ok (.iaload, 1) := by decide +kernel
theorem dX0_refresh_29 : decode cX0_refresh 29 = .ok (.goto 4, 3) := by decide +kernel
theorem dX0_refresh_32 : decode cX0_refresh 32 = .ok (.iconst 0, 1) := by decide +kernel
theorem dX0_refresh_33 : decode cX0_refresh 33 = .ok (.istore_n 2, 1) := by decide +kernel
theorem dX0_refresh_34 : decode cX0_refresh 34 = .ok (.iload_n 2, 1) := by decide +kernel
theorem dX0_refresh_35 : decode cX0_refresh 35 = .ok (.aload_n 0, 1) := by decide +kernel
theorem dX0_refresh_36 : decode cX0_refresh 36 = .ok (.getfield 32, 3) := by decide +kernel
theorem dX0_refresh_39 : decode cX0_refresh 39 = .ok (.if_icmp .ne 10, 3) := by decide +kernel
theorem dX0_refresh_42 : decode cX0_refresh 42 = .ok (.aload_n 0, 1) := by decide +kernel
theorem dX0_refresh_43 : decode cX0_refresh 43 = .ok (.getfield 25, 3) := by decide +kernel
theorem dX0_refresh_46 : decode cX0_refresh 46 = .ok (.iload_n 2, 1) := by decide +kernel
theorem dX0_refresh_47 : decode cX0_refresh 47 = .ok (.iaload, 1) := by decide +kernel
theorem dX0_refresh_48 : decode cX0_refresh 48 = .ok (.istore_n 2, 1) := by decide +kernel
theorem dX0_refresh_49 : decode cX0_refresh 49 = .ok (.iconst 0, 1) := by decide +kernel
theorem dX0_refresh_50 : decode cX0_refresh 50 = .ok (.istore_n 3, 1) := by decide +kernel
theorem dX0_refresh_51 : decode cX0_refresh 51 = .ok (.iload_n 3, 1) := by decide +kernel
theorem dX0_refresh_52 : decode cX0_refresh 52 = .ok (.bipush 10, 2) := by decide +kernel
theorem dX0_refresh_54 : decode cX0_refresh 54 = .ok (.if_icmp .gt 32, 3) := by decide +kernel
theorem dX0_refresh_57 : decode cX0_refresh 57 = .ok (.iload_n 2, 1) := by decide +kernel
theorem dX0_refresh_58 : decode cX0_refresh 58 = .ok (.ifCond .lt 28, 3) := by decide +kernel
theorem dX0_refresh_61 : decode cX0_refresh 61 = .ok (.aload_n 0, 1) := by decide +kernel
theorem dX0_refresh_62 : decode cX0_refresh 62 = .ok (.iload_n 2, 1) := by decide +kernel
theorem dX0_refresh_63 : decode cX0_refresh 63 = .ok (.iload_n 1, 1) := by decide +kernel
theorem dX0_refresh_64 : decode cX0_refresh 64 = .ok (.invokevirtual 67, 3) := by decide +kernel
theorem dX0_refresh_67 : decode cX0_refresh 67 = .ok (.ifCond .eq 6, 3) := by decide +kernel
theorem dX0_refresh_70 : decode cX0_refresh 70 = .ok (.goto 16, 3) := by decide +kernel
theorem dX0_refresh_73 : decode cX0_refresh 73 = .ok (.aload_n 0, 1) := by decide +kernel
theorem dX0_refresh_74 : decode cX0_refresh 74 = .ok (.getfield 25, 3) := by decide +kernel
theorem dX0_refresh_77 : decode cX0_refresh 77 = .ok (.iload_n 2, 1) := by decide +kernel
theorem dX0_refresh_78 : decode cX0_refresh 78 = .ok (.iaload, 1) := by decide +kernel
theorem dX0_refresh_79 : decode cX0_refresh 79 = .ok (.istore_n 2, 1) := by decide +kernel
theorem dX0_refresh_80 : decode cX0_refresh 80 = .ok (.iinc 3 1, 3) := by decide +kernel
theorem dX0_refresh_83 : decode cX0_refresh 83 = .ok (.goto (-32), 3) := by decide +kernel
theorem dX0_refresh_86 : decode cX0_refresh 86 = .ok (.aload_n 0, 1) := by decide +kernel
theorem dX0_refresh_87 : decode cX0_refresh 87 = .ok (.getfield 13, 3) := by decide +kernel
theorem dX0_refresh_90 : decode cX0_refresh 90 = .ok (.iload_n 1, 1) := by decide +kernel
theorem dX0_refresh_91 : decode cX0_refresh 91 = .ok (.aload_n 0, 1) := by decide +kernel
theorem dX0_refresh_92 : decode cX0_refresh 92 = .ok (.getfield 32, 3) := by decide +kernel
theorem dX0_refresh_95 : decode cX0_refresh 95 = .ok (.ifCond .ne 7, 3) := by decide +kernel
theorem dX0_refresh_98 : decode cX0_refresh 98 = .ok (.iconst 0, 1) := by decide +kernel
theorem dX0_refresh_99 : decode cX0_refresh 99 = .ok (.goto 6, 3) := by decide +kernel
theorem dX0_refresh_102 : decode cX0_refresh 102 = .ok (.iload_n 2, 1) := by decide +kernel
theorem dX0_refresh_103 : decode cX0_refresh 103 = .ok (.iconst 1, 1) := by decide +kernel
theorem dX0_refresh_104 : decode cX0_refresh 104 = .ok (.iadd, 1) := by decide +kernel
theorem dX0_refresh_105 : decode cX0_refresh 105 = .ok (.iastore, 1) := by decide +kernel
theorem dX0_refresh_106 : decode cX0_refresh 106 = .ok (.iinc 1 1, 3) := by decide +kernel
theorem dX0_refresh_109 : decode cX0_refresh 109 = .ok (.goto (-100), 3) := by decide +kernel
theorem dX0_refresh_112 : decode cX0_refresh 112 = .ok (.aload_n 0, 1) := by decide +kernel
theorem dX0_refresh_113 : decode cX0_refresh 113 = .ok (.aload_n 0, 1) := by decide +kernel
theorem dX0_refresh_114 : decode cX0_refresh 114 = .ok (.getfield 39, 3) := by decide +kernel
theorem dX0_refresh_117 : decode cX0_refresh 117 = .ok (.putfield 42, 3) := by decide +kernel
theorem dX0_refresh_120 : decode cX0_refresh 120 = .ok (.return_, 1) := by decide +kernel
abbrev cX0_code : ByteArray := prog_1_method_23_code
def yX0_code : MethodName := ⟨RX0, "code", "()V"⟩
theorem dX0_code_0 : decode cX0_code 0 = .ok (.aload_n 0, 1) := by decide +kernel
theorem dX0_code_1 : decode cX0_code 1 = .ok (.getfield 28, 3) := by decide +kernel
theorem dX0_code_4 : decode cX0_code 4 = .ok (.ifCond .eq 4, 3) := by decide +kernel
theorem dX0_code_7 : decode cX0_code 7 = .ok (.return_, 1) := by decide +kernel
theorem dX0_code_8 : decode cX0_code 8 = .ok (.aload_n 0, 1) := by decide +kernel
theorem dX0_code_9 : decode cX0_code 9 = .ok (.iconst 1, 1) := by decide +kernel
theorem dX0_code_10 : decode cX0_code 10 = .ok (.putfield 28, 3) := by decide +kernel
theorem dX0_code_13 : decode cX0_code 13 = .ok (.iconst 0, 1) := by decide +kernel
theorem dX0_code_14 : decode cX0_code 14 = .ok (.istore_n 1, 1) := by decide +kernel
theorem dX0_code_15 : decode cX0_code 15 = .ok (.iload_n 1, 1) := by decide +kernel
theorem dX0_code_16 : decode cX0_code 16 = .ok (.aload_n 0, 1) := by decide +kernel
theorem dX0_code_17 : decode cX0_code 17 = .ok (.getfield 32, 3) := by decide +kernel
theorem dX0_code_20 : decode cX0_code 20 = .ok (.if_icmp .ge 14, 3) := by decide +kernel
theorem dX0_code_23 : decode cX0_code 23 = .ok (.aload_n 0, 1) := by decide +kernel
theorem dX0_code_24 : decode cX0_code 24 = .ok (.iload_n 1, 1) := by decide +kernel
theorem dX0_code_25 : decode cX0_code 25 = .ok (.invokevirtual 55, 3) := by decide +kernel
theorem dX0_code_28 : decode cX0_code 28 = .ok (.iinc 1 1, 3) := by decide +kernel
theorem dX0_code_31 : decode cX0_code 31 = .ok (.goto (-16), 3) := by decide +kernel
theorem dX0_code_34 : decode cX0_code 34 = .ok (.aload_n 0, 1) := by decide +kernel
theorem dX0_code_35 : decode cX0_code 35 = .ok (.getfield 25, 3) := by decide +kernel
theorem dX0_code_38 : decode cX0_code 38 = .ok (.iconst 0, 1) := by decide +kernel
theorem dX0_code_39 : decode cX0_code 39 = .ok (.iconst (-1), 1) := by decide +kernel
theorem dX0_code_40 : decode cX0_code 40 = .ok (.iastore, 1) := by decide +kernel
theorem dX0_code_41 : decode cX0_code 41 = .ok (.iconst 0, 1) := by decide +kernel
theorem dX0_code_42 : decode cX0_code 42 = .ok (.istore_n 1, 1) := by decide +kernel
theorem dX0_code_43 : decode cX0_code 43 = .ok (.iload_n 1, 1) := by decide +kernel
theorem dX0_code_44 : decode cX0_code 44 = .ok (.aload_n 0, 1) := by decide +kernel
theorem dX0_code_45 : decode cX0_code 45 = .ok (.getfield 32, 3) := by decide +kernel
theorem dX0_code_48 : decode cX0_code 48 = .ok (.if_icmp .ge 64, 3) := by decide +kernel
theorem dX0_code_51 : decode cX0_code 51 = .ok (.aload_n 0, 1) := by decide +kernel
theorem dX0_code_52 : decode cX0_code 52 = .ok (.getfield 25, 3) := by decide +kernel
theorem dX0_code_55 : decode cX0_code 55 = .ok (.iload_n 1, 1) := by decide +kernel
theorem dX0_code_56 : decode cX0_code 56 = .ok (.iaload, 1) := by decide +kernel
theorem dX0_code_57 : decode cX0_code 57 = .ok (.istore_n 2, 1) := by decide +kernel
theorem dX0_code_58 : decode cX0_code 58 = .ok (.iconst 0, 1) := by decide +kernel
theorem dX0_code_59 : decode cX0_code 59 = .ok (.istore_n 3, 1) := by decide +kernel
theorem dX0_code_60 : decode cX0_code 60 = .ok (.iload_n 3, 1) := by decide +kernel
theorem dX0_code_61 : decode cX0_code 61 = .ok (.bipush 10, 2) := by decide +kernel
theorem dX0_code_63 : decode cX0_code 63 = .ok (.if_icmp .gt 32, 3) := by decide +kernel
theorem dX0_code_66 : decode cX0_code 66 = .ok (.iload_n 2, 1) := by decide +kernel
theorem dX0_code_67 : decode cX0_code 67 = .ok (.ifCond .lt 28, 3) := by decide +kernel
theorem dX0_code_70 : decode cX0_code 70 = .ok (.aload_n 0, 1) := by decide +kernel
theorem dX0_code_71 : decode cX0_code 71 = .ok (.iload_n 2, 1) := by decide +kernel
theorem dX0_code_72 : decode cX0_code 72 = .ok (.iload_n 1, 1) := by decide +kernel
theorem dX0_code_73 : decode cX0_code 73 = .ok (.invokevirtual 59, 3) := by decide +kernel
theorem dX0_code_76 : decode cX0_code 76 = .ok (.ifCond .eq 6, 3) := by decide +kernel
theorem dX0_code_79 : decode cX0_code 79 = .ok (.goto 16, 3) := by decide +kernel
theorem dX0_code_82 : decode cX0_code 82 = .ok (.aload_n 0, 1) := by decide +kernel
theorem dX0_code_83 : decode cX0_code 83 = .ok (.getfield 25, 3) := by decide +kernel
theorem dX0_code_86 : decode cX0_code 86 = .ok (.iload_n 2, 1) := by decide +kernel
theorem dX0_code_87 : decode cX0_code 87 = .ok (.iaload, 1) := by decide +kernel
theorem dX0_code_88 : decode cX0_code 88 = .ok (.istore_n 2, 1) := by decide +kernel
theorem dX0_code_89 : decode cX0_code 89 = .ok (.iinc 3 1, 3) := by decide +kernel
theorem dX0_code_92 : decode cX0_code 92 = .ok (.goto (-32), 3) := by decide +kernel
theorem dX0_code_95 : decode cX0_code 95 = .ok (.aload_n 0, 1) := by decide +kernel
theorem dX0_code_96 : decode cX0_code 96 = .ok (.getfield 25, 3) := by decide +kernel
theorem dX0_code_99 : decode cX0_code 99 = .ok (.iload_n 1, 1) := by decide +kernel
theorem dX0_code_100 : decode cX0_code 100 = .ok (.iconst 1, 1) := by decide +kernel
theorem dX0_code_101 : decode cX0_code 101 = .ok (.iadd, 1) := by decide +kernel
theorem dX0_code_102 : decode cX0_code 102 = .ok (.iload_n 2, 1) := by decide +kernel
theorem dX0_code_103 : decode cX0_code 103 = .ok (.iconst 1, 1) := by decide +kernel
theorem dX0_code_104 : decode cX0_code 104 = .ok (.iadd, 1) := by decide +kernel
theorem dX0_code_105 : decode cX0_code 105 = .ok (.iastore, 1) := by decide +kernel
theorem dX0_code_106 : decode cX0_code 106 = .ok (.iinc 1 1, 3) := by decide +kernel
theorem dX0_code_109 : decode cX0_code 109 = .ok (.goto (-66), 3) := by decide +kernel
theorem dX0_code_112 : decode cX0_code 112 = .ok (.return_, 1) := by decide +kernel
abbrev cX0_findNeighbours : ByteArray := prog_1_method_24_code
def yX0_findNeighbours : MethodName := ⟨RX0, "findNeighbours", "(I)V"⟩
theorem dX0_findNeighbours_0 : decode cX0_findNeighbours 0 = .ok (.aload_n 0, 1) := by decide +kernel
theorem dX0_findNeighbours_1 : decode cX0_findNeighbours 1 = .ok (.getfield 19, 3) := by decide +kernel
theorem dX0_findNeighbours_4 : decode cX0_findNeighbours 4 = .ok (.iload_n 1, 1) := by decide +kernel
theorem dX0_findNeighbours_5 : decode cX0_findNeighbours 5 = .ok (.iconst (-1), 1) := by decide +kernel
theorem dX0_findNeighbours_6 : decode cX0_findNeighbours 6 = .ok (.iastore, 1) := by decide +kernel
theorem dX0_findNeighbours_7 : decode cX0_findNeighbours 7 = .ok (.aload_n 0, 1) := by decide +kernel
theorem dX0_findNeighbours_8 : decode cX0_findNeighbours 8 = .ok (.getfield 22, 3) := by decide +kernel
theorem dX0_findNeighbours_11 : decode cX0_findNeighbours 11 = .ok (.iload_n 1, 1) := by decide +kernel
theorem dX0_findNeighbours_12 : decode cX0_findNeighbours 12 = .ok (.iconst (-1), 1) := by decide +kernel
theorem dX0_findNeighbours_13 : decode cX0_findNeighbours 13 = .ok (.iastore, 1) := by decide +kernel
theorem dX0_findNeighbours_14 : decode cX0_findNeighbours 14 = .ok (.iconst 0, 1) := by decide +kernel
theorem dX0_findNeighbours_15 : decode cX0_findNeighbours 15 = .ok (.istore_n 2, 1) := by decide +kernel
theorem dX0_findNeighbours_16 : decode cX0_findNeighbours 16 = .ok (.iload_n 2, 1) := by decide +kernel
theorem dX0_findNeighbours_17 : decode cX0_findNeighbours 17 = .ok (.iload_n 1, 1) := by decide +kernel
theorem dX0_findNeighbours_18 : decode cX0_findNeighbours 18 = .ok (.if_icmp .ge 113, 3) := by decide +kernel
theorem dX0_findNeighbours_21 : decode cX0_findNeighbours 21 = .ok (.aload_n 0, 1) := by decide +kernel
theorem dX0_findNeighbours_22 : decode cX0_findNeighbours 22 = .ok (.getfield 16, 3) := by decide +kernel
theorem dX0_findNeighbours_25 : decode cX0_findNeighbours 25 = .ok (.iload_n 2, 1) := by decide +kernel
theorem dX0_findNeighbours_26 : decode cX0_findNeighbours 26 = .ok (.iaload, 1) := by decide +kernel
theorem dX0_findNeighbours_27 : decode cX0_findNeighbours 27 = .ok (.aload_n 0, 1) := by decide +kernel
theorem dX0_findNeighbours_28 : decode cX0_findNeighbours 28 = .ok (.getfield 16, 3) := by decide +kernel
theorem dX0_findNeighbours_31 : decode cX0_findNeighbours 31 = .ok (.iload_n 1, 1) := by decide +kernel
theorem dX0_findNeighbours_32 : decode cX0_findNeighbours 32 = .ok (.iaload, 1) := by decide +kernel
theorem dX0_findNeighbours_33 : decode cX0_findNeighbours 33 = .ok (.if_icmp .gt 40, 3) := by decide +kernel
theorem dX0_findNeighbours_36 : decode cX0_findNeighbours 36 = .ok (.aload_n 0, 1) := by decide +kernel
theorem dX0_findNeighbours_37 : decode cX0_findNeighbours 37 = .ok (.getfield 19, 3) := by decide +kernel
theorem dX0_findNeighbours_40 : decode cX0_findNeighbours 40 = .ok (.iload_n 1, 1) := by decide +kernel
theorem dX0_findNeighbours_41 : decode cX0_findNeighbours 41 = .ok (.iaload, 1) := by decide +kernel
theorem dX0_findNeighbours_42 : decode cX0_findNeighbours 42 = .ok (.iconst (-1), 1) := by decide +kernel
theorem dX0_findNeighbours_43 : decode cX0_findNeighbours 43 = .ok (.if_icmp .eq 23, 3) := by decide +kernel
theorem dX0_findNeighbours_46 : decode cX0_findNeighbours 46 = .ok (.aload_n 0, 1) := by decide +kernel
theorem dX0_findNeighbours_47 : decode cX0_findNeighbours 47 = .ok (.getfield 16, 3) := by decide +kernel
theorem dX0_findNeighbours_50 : decode cX0_findNeighbours 50 = .ok (.iload_n 2, 1) := by decide +kernel
theorem dX0_findNeighbours_51 : decode cX0_findNeighbours 51 = .ok (.iaload, 1) := by decide +kernel
theorem dX0_findNeighbours_52 : decode cX0_findNeighbours 52 = .ok (.aload_n 0, 1) := by decide +kernel
theorem dX0_findNeighbours_53 : decode cX0_findNeighbours 53 = .ok (.getfield 16, 3) := by decide +kernel
theorem dX0_findNeighbours_56 : decode cX0_findNeighbours 56 = .ok (.aload_n 0, 1) := by decide +kernel
theorem dX0_findNeighbours_57 : decode cX0_findNeighbours 57 = .ok (.getfield 19, 3) := by decide +kernel
theorem dX0_findNeighbours_60 : decode cX0_findNeighbours 60 = .ok (.iload_n 1, 1) := by decide +kernel
theorem dX0_findNeighbours_61 : decode cX0_findNeighbours 61 = .ok (.iaload, 1) := by decide +kernel
theorem dX0_findNeighbours_62 : decode cX0_findNeighbours 62 = .ok (.iaload, 1) := by decide +kernel
theorem dX0_findNeighbours_63 : decode cX0_findNeighbours 63 = .ok (.if_icmp .le 10, 3) := by decide +kernel
theorem dX0_findNeighbours_66 : decode cX0_findNeighbours 66 = .ok (.aload_n 0, 1) := by decide +kernel
theorem dX0_findNeighbours_67 : decode cX0_findNeighbours 67 = .ok (.getfield 19, 3) := by decide +kernel
theorem dX0_findNeighbours_70 : decode cX0_findNeighbours 70 = .ok (.iload_n 1, 1) := by decide +kernel
theorem dX0_findNeighbours_71 : decode cX0_findNeighbours 71 = .ok (.iload_n 2, 1) := by decide +kernel
theorem dX0_findNeighbours_72 : decode cX0_findNeighbours 72 = .ok (.iastore, 1) := by decide +kernel
theorem dX0_findNeighbours_73 : decode cX0_findNeighbours 73 = .ok (.aload_n 0, 1) := by decide +kernel
theorem dX0_findNeighbours_74 : decode cX0_findNeighbours 74 = .ok (.getfield 16, 3) := by decide +kernel
theorem dX0_findNeighbours_77 : decode cX0_findNeighbours 77 = .ok (.iload_n 2, 1) := by decide +kernel
theorem dX0_findNeighbours_78 : decode cX0_findNeighbours 78 = .ok (.iaload, 1) := by decide +kernel
theorem dX0_findNeighbours_79 : decode cX0_findNeighbours 79 = .ok (.aload_n 0, 1) := by decide +kernel
theorem dX0_findNeighbours_80 : decode cX0_findNeighbours 80 = .ok (.getfield 16, 3) := by decide +kernel
theorem dX0_findNeighbours_83 : decode cX0_findNeighbours 83 = .ok (.iload_n 1, 1) := by decide +kernel
theorem dX0_findNeighbours_84 : decode cX0_findNeighbours 84 = .ok (.iaload, 1) := by decide +kernel
theorem dX0_findNeighbours_85 : decode cX0_findNeighbours 85 = .ok (.if_icmp .lt 40, 3) := by decide +kernel
theorem dX0_findNeighbours_88 : decode cX0_findNeighbours 88 = .ok (.aload_n 0, 1) := by decide +kernel
theorem dX0_findNeighbours_89 : decode cX0_findNeighbours 89 = .ok (.getfield 22, 3) := by decide +kernel
theorem dX0_findNeighbours_92 : decode cX0_findNeighbours 92 = .ok (.iload_n 1, 1) := by decide +kernel
theorem dX0_findNeighbours_93 : decode cX0_findNeighbours 93 = .ok (.iaload, 1) := by decide +kernel
theorem dX0_findNeighbours_94 : decode cX0_findNeighbours 94 = .ok (.iconst (-1), 1) := by decide +kernel
theorem dX0_findNeighbours_95 : decode cX0_findNeighbours 95 = .ok (.if_icmp .eq 23, 3) := by decide +kernel
theorem dX0_findNeighbours_98 : decode cX0_findNeighbours 98 = .ok (.aload_n 0, 1) := by decide +kernel
theorem dX0_findNeighbours_99 : decode cX0_findNeighbours 99 = .ok (.getfield 16, 3) := by decide +kernel
theorem dX0_findNeighbours_102 : decode cX0_findNeighbours 102 = .ok (.iload_n 2, 1) := by decide +kernel
theorem dX0_findNeighbours_103 : decode cX0_findNeighbours 103 = .ok (.iaload, 1) := by decide +kernel
theorem dX0_findNeighbours_104 : decode cX0_findNeighbours 104 = .ok (.aload_n 0, 1) := by decide +kernel
theorem dX0_findNeighbours_105 : decode cX0_findNeighbours 105 = .ok (.getfield 16, 3) := by decide +kernel
theorem dX0_findNeighbours_108 : decode cX0_findNeighbours 108 = .ok (.aload_n 0, 1) := by decide +kernel
theorem dX0_findNeighbours_109 : decode cX0_findNeighbours 109 = .ok (.getfield 22, 3) := by decide +kernel
theorem dX0_findNeighbours_112 : decode cX0_findNeighbours 112 = .ok (.iload_n 1, 1) := by decide +kernel
theorem dX0_findNeighbours_113 : decode cX0_findNeighbours 113 = .ok (.iaload, 1) := by decide +kernel
theorem dX0_findNeighbours_114 : decode cX0_findNeighbours 114 = .ok (.iaload, 1) := by decide +kernel
theorem dX0_findNeighbours_115 : decode cX0_findNeighbours 115 = .ok (.if_icmp .ge 10, 3) := by decide +kernel
theorem dX0_findNeighbours_118 : decode cX0_findNeighbours 118 = .ok (.aload_n 0, 1) := by decide +kernel
theorem dX0_findNeighbours_119 : decode cX0_findNeighbours 119 = .ok (.getfield 22, 3) := by decide +kernel
theorem dX0_findNeighbours_122 : decode cX0_findNeighbours 122 = .ok (.iload_n 1, 1) := by decide +kernel
theorem dX0_findNeighbours_123 : decode cX0_findNeighbours 123 = .ok (.iload_n 2, 1) := by decide +kernel
theorem dX0_findNeighbours_124 : decode cX0_findNeighbours 124 = .ok (.iastore, 1) := by decide +kernel
theorem dX0_findNeighbours_125 : decode cX0_findNeighbours 125 = .ok (.iinc 2 1, 3) := by decide +kernel
theorem dX0_findNeighbours_128 : decode cX0_findNeighbours 128 = .ok (.goto (-112), 3) := by decide +kernel
theorem dX0_findNeighbours_131 : decode cX0_findNeighbours 131 = .ok (.return_, 1) := by decide +kernel
abbrev cX0_fitsPattern : ByteArray := prog_1_method_26_code
def yX0_fitsPattern : MethodName := ⟨RX0, "fitsPattern", "(II)Z"⟩
theorem dX0_fitsPattern_0 : decode cX0_fitsPattern 0 = .ok (.aload_n 0, 1) := by decide +kernel
theorem dX0_fitsPattern_1 : decode cX0_fitsPattern 1 = .ok (.getfield 19, 3) := by decide +kernel
theorem dX0_fitsPattern_4 : decode cX0_fitsPattern 4 = .ok (.iload_n 1, 1) := by decide +kernel
theorem dX0_fitsPattern_5 : decode cX0_fitsPattern 5 = .ok (.iaload, 1) := by decide +kernel
theorem dX0_fitsPattern_6 : decode cX0_fitsPattern 6 = .ok (.iconst (-1), 1) := by decide +kernel
theorem dX0_fitsPattern_7 : decode cX0_fitsPattern 7 = .ok (.if_icmp .ne 7, 3) := by decide +kernel
theorem dX0_fitsPattern_10 : decode cX0_fitsPattern 10 = .ok (.iconst 0, 1) := by decide +kernel
theorem dX0_fitsPattern_11 : decode cX0_fitsPattern 11 = .ok (.goto 18, 3) := by decide +kernel
theorem dX0_fitsPattern_14 : decode cX0_fitsPattern 14 = .ok (.aload_n 0, 1) := by decide +kernel
theorem dX0_fitsPattern_15 : decode cX0_fitsPattern 15 = .ok (.getfield 16, 3) := by decide +kernel
theorem dX0_fitsPattern_18 : decode cX0_fitsPattern 18 = .ok (.iload_n 2, 1) := by decide +kernel
theorem dX0_fitsPattern_19 : decode cX0_fitsPattern 19 = .ok (.iload_n 1, 1) := by decide +kernel
theorem dX0_fitsPattern_20 : decode cX0_fitsPattern 20 = .ok (.isub, 1) := by decide +kernel
theorem dX0_fitsPattern_21 : decode cX0_fitsPattern 21 = .ok (.aload_n 0, 1) := by decide +kernel
theorem dX0_fitsPattern_22 : decode cX0_fitsPattern 22 = .ok (.getfield 19, 3) := by decide +kernel
theorem dX0_fitsPattern_25 : decode cX0_fitsPattern 25 = .ok (.iload_n 1, 1) := by decide +kernel
theorem dX0_fitsPattern_26 : decode cX0_fitsPattern 26 = .ok (.iaload, 1) := by decide +kernel
theorem dX0_fitsPattern_27 : decode cX0_fitsPattern 27 = .ok (.iadd, 1) := by decide +kernel
theorem dX0_fitsPattern_28 : decode cX0_fitsPattern 28 = .ok (.iaload, 1) := by decide +kernel
theorem dX0_fitsPattern_29 : decode cX0_fitsPattern 29 = .ok (.istore_n 3, 1) := by decide +kernel
theorem dX0_fitsPattern_30 : decode cX0_fitsPattern 30 = .ok (.aload_n 0, 1) := by decide +kernel
theorem dX0_fitsPattern_31 : decode cX0_fitsPattern 31 = .ok (.getfield 22, 3) := by decide +kernel
theorem dX0_fitsPattern_34 : decode cX0_fitsPattern 34 = .ok (.iload_n 1, 1) := by decide +kernel
theorem dX0_fitsPattern_35 : decode cX0_fitsPattern 35 = .ok (.iaload, 1) := by decide +kernel
theorem dX0_fitsPattern_36 : decode cX0_fitsPattern 36 = .ok (.iconst (-1), 1) := by decide +kernel
theorem dX0_fitsPattern_37 : decode cX0_fitsPattern 37 = .ok (.if_icmp .ne 7, 3) := by decide +kernel
theorem dX0_fitsPattern_40 : decode cX0_fitsPattern 40 = .ok (.iconst 0, 1) := by decide +kernel
theorem dX0_fitsPattern_41 : decode cX0_fitsPattern 41 = .ok (.goto 18, 3) := by decide +kernel
theorem dX0_fitsPattern_44 : decode cX0_fitsPattern 44 = .ok (.aload_n 0, 1) := by decide +kernel
theorem dX0_fitsPattern_45 : decode cX0_fitsPattern 45 = .ok (.getfield 16, 3) := by decide +kernel
theorem dX0_fitsPattern_48 : decode cX0_fitsPattern 48 = .ok (.iload_n 2, 1) := by decide +kernel
theorem dX0_fitsPattern_49 : decode cX0_fitsPattern 49 = .ok (.iload_n 1, 1) := by decide +kernel
theorem dX0_fitsPattern_50 : decode cX0_fitsPattern 50 = .ok (.isub, 1) := by decide +kernel
theorem dX0_fitsPattern_51 : decode cX0_fitsPattern 51 = .ok (.aload_n 0, 1) := by decide +kernel
theorem dX0_fitsPattern_52 : decode cX0_fitsPattern 52 = .ok (.getfield 22, 3) := by decide +kernel
theorem dX0_fitsPattern_55 : decode cX0_fitsPattern 55 = .ok (.iload_n 1, 1) := by decide +kernel
theorem dX0_fitsPattern_56 : decode cX0_fitsPattern 56 = .ok (.iaload, 1) := by decide +kernel
theorem dX0_fitsPattern_57 : decode cX0_fitsPattern 57 = .ok (.iadd, 1) := by decide +kernel
theorem dX0_fitsPattern_58 : decode cX0_fitsPattern 58 = .ok (.iaload, 1) := by decide +kernel
theorem dX0_fitsPattern_59 : decode cX0_fitsPattern 59 = .ok (.istore 4, 2) := by decide +kernel
theorem dX0_fitsPattern_61 : decode cX0_fitsPattern 61 = .ok (.aload_n 0, 1) := by decide +kernel
theorem dX0_fitsPattern_62 : decode cX0_fitsPattern 62 = .ok (.iload_n 1, 1) := by decide +kernel
theorem dX0_fitsPattern_63 : decode cX0_fitsPattern 63 = .ok (.aload_n 0, 1) := by decide +kernel
theorem dX0_fitsPattern_64 : decode cX0_fitsPattern 64 = .ok (.getfield 16, 3) := by decide +kernel
theorem dX0_fitsPattern_67 : decode cX0_fitsPattern 67 = .ok (.iload_n 2, 1) := by decide +kernel
theorem dX0_fitsPattern_68 : decode cX0_fitsPattern 68 = .ok (.iaload, 1) := by decide +kernel
theorem dX0_fitsPattern_69 : decode cX0_fitsPattern 69 = .ok (.iload_n 3, 1) := by decide +kernel
theorem dX0_fitsPattern_70 : decode cX0_fitsPattern 70 = .ok (.iload 4, 2) := by decide +kernel
theorem dX0_fitsPattern_72 : decode cX0_fitsPattern 72 = .ok (.invokevirtual 63, 3) := by decide +kernel
theorem dX0_fitsPattern_75 : decode cX0_fitsPattern 75 = .ok (.ireturn, 1) := by decide +kernel
abbrev cX0_compares : ByteArray := prog_1_method_25_code
def yX0_compares : MethodName := ⟨RX0, "compares", "(IIII)Z"⟩
theorem dX0_compares_0 : decode cX0_compares 0 = .ok (.aload_n 0, 1) := by decide +kernel
theorem dX0_compares_1 : decode cX0_compares 1 = .ok (.getfield 19, 3) := by decide +kernel
theorem dX0_compares_4 : decode cX0_compares 4 = .ok (.iload_n 1, 1) := by decide +kernel
theorem dX0_compares_5 : decode cX0_compares 5 = .ok (.iaload, 1) := by decide +kernel
theorem dX0_compares_6 : decode cX0_compares 6 = .ok (.istore 5, 2) := by decide +kernel
theorem dX0_compares_8 : decode cX0_compares 8 = .ok (.aload_n 0, 1) := by decide +kernel
theorem dX0_compares_9 : decode cX0_compares 9 = .ok (.getfield 22, 3) := by decide +kernel
theorem dX0_compares_12 : decode cX0_compares 12 = .ok (.iload_n 1, 1) := by decide +kernel
theorem dX0_compares_13 : decode cX0_compares 13 = .ok (.iaload, 1) := by decide +kernel
theorem dX0_compares_14 : decode cX0_compares 14 = .ok (.istore 6, 2) := by decide +kernel
theorem dX0_compares_16 : decode cX0_compares 16 = .ok (.iload 5, 2) := by decide +kernel
theorem dX0_compares_18 : decode cX0_compares 18 = .ok (.iconst (-1), 1) := by decide +kernel
theorem dX0_compares_19 : decode cX0_compares 19 = .ok (.if_icmp .eq 30, 3) := by decide +kernel
theorem dX0_compares_22 : decode cX0_compares 22 = .ok (.aload_n 0, 1) := by decide +kernel
theorem dX0_compares_23 : decode cX0_compares 23 = .ok (.getfield 16, 3) := by decide +kernel
theorem dX0_compares_26 : decode cX0_compares 26 = .ok (.iload 5, 2) := by decide +kernel
theorem dX0_compares_28 : decode cX0_compares 28 = .ok (.iaload, 1) := by decide +kernel
theorem dX0_compares_29 : decode cX0_compares 29 = .ok (.aload_n 0, 1) := by decide +kernel
theorem dX0_compares_30 : decode cX0_compares 30 = .ok (.getfield 16, 3) := by decide +kernel
theorem dX0_compares_33 : decode cX0_compares 33 = .ok (.iload_n 1, 1) := by decide +kernel
theorem dX0_compares_34 : decode cX0_compares 34 = .ok (.iaload, 1) := by decide +kernel
theorem dX0_compares_35 : decode cX0_compares 35 = .ok (.if_icmp .ne 14, 3) := by decide +kernel
theorem dX0_compares_38 : decode cX0_compares 38 = .ok (.iload_n 3, 1) := by decide +kernel
theorem dX0_compares_39 : decode cX0_compares 39 = .ok (.iload_n 2, 1) := by decide +kernel
theorem dX0_compares_40 : decode cX0_compares 40 = .ok (.if_icmp .ne 7, 3) := by decide +kernel
theorem dX0_compares_43 : decode cX0_compares 43 = .ok (.iconst 1, 1) := by decide +kernel
theorem dX0_compares_44 : decode cX0_compares 44 = .ok (.goto 4, 3) := by decide +kernel
theorem dX0_compares_47 : decode cX0_compares 47 = .ok (.iconst 0, 1) := by decide +kernel
theorem dX0_compares_48 : decode cX0_compares 48 = .ok (.ireturn, 1) := by decide +kernel
theorem dX0_compares_49 : decode cX0_compares 49 = .ok (.iload 5, 2) := by decide +kernel
theorem dX0_compares_51 : decode cX0_compares 51 = .ok (.iconst (-1), 1) := by decide +kernel
theorem dX0_compares_52 : decode cX0_compares 52 = .ok (.if_icmp .eq 8, 3) := by decide +kernel
theorem dX0_compares_55 : decode cX0_compares 55 = .ok (.iload_n 3, 1) := by decide +kernel
theorem dX0_compares_56 : decode cX0_compares 56 = .ok (.iload_n 2, 1) := by decide +kernel
theorem dX0_compares_57 : decode cX0_compares 57 = .ok (.if_icmp .ge 19, 3) := by decide +kernel
theorem dX0_compares_60 : decode cX0_compares 60 = .ok (.iload 6, 2) := by decide +kernel
theorem dX0_compares_62 : decode cX0_compares 62 = .ok (.iconst (-1), 1) := by decide +kernel
theorem dX0_compares_63 : decode cX0_compares 63 = .ok (.if_icmp .eq 9, 3) := by decide +kernel
theorem dX0_compares_66 : decode cX0_compares 66 = .ok (.iload_n 2, 1) := by decide +kernel
theorem dX0_compares_67 : decode cX0_compares 67 = .ok (.iload 4, 2) := by decide +kernel
theorem dX0_compares_69 : decode cX0_compares 69 = .ok (.if_icmp .ge 7, 3) := by decide +kernel
theorem dX0_compares_72 : decode cX0_compares 72 = .ok (.iconst 1, 1) := by decide +kernel
theorem dX0_compares_73 : decode cX0_compares 73 = .ok (.goto 4, 3) := by decide +kernel
theorem dX0_compares_76 : decode cX0_compares 76 = .ok (.iconst 0, 1) := by decide +kernel
theorem dX0_compares_77 : decode cX0_compares 77 = .ok (.ireturn, 1) := by decide +kernel
abbrev cX0_fitsText : ByteArray := prog_1_method_27_code
def yX0_fitsText : MethodName := ⟨RX0, "fitsText", "(II)Z"⟩
theorem dX0_fitsText_0 : decode cX0_fitsText 0 = .ok (.aload_n 0, 1) := by decide +kernel
theorem dX0_fitsText_1 : decode cX0_fitsText 1 = .ok (.getfield 19, 3) := by decide +kernel
theorem dX0_fitsText_4 : decode cX0_fitsText 4 = .ok (.iload_n 1, 1) := by decide +kernel
theorem dX0_fitsText_5 : decode cX0_fitsText 5 = .ok (.iaload, 1) := by decide +kernel
theorem dX0_fitsText_6 : decode cX0_fitsText 6 = .ok (.iconst (-1), 1) := by decide +kernel
theorem dX0_fitsText_7 : decode cX0_fitsText 7 = .ok (.if_icmp .ne 7, 3) := by decide +kernel
theorem dX0_fitsText_10 : decode cX0_fitsText 10 = .ok (.iconst 0, 1) := by decide +kernel
theorem dX0_fitsText_11 : decode cX0_fitsText 11 = .ok (.goto 18, 3) := by decide +kernel
theorem dX0_fitsText_14 : decode cX0_fitsText 14 = .ok (.aload_n 0, 1) := by decide +kernel
theorem dX0_fitsText_15 : decode cX0_fitsText 15 = .ok (.getfield 7, 3) := by decide +kernel
theorem dX0_fitsText_18 : decode cX0_fitsText 18 = .ok (.iload_n 2, 1) := by decide +kernel
theorem dX0_fitsText_19 : decode cX0_fitsText 19 = .ok (.iload_n 1, 1) := by decide +kernel
theorem dX0_fitsText_20 : decode cX0_fitsText 20 = .ok (.isub, 1) := by decide +kernel
theorem dX0_fitsText_21 : decode cX0_fitsText 21 = .ok (.aload_n 0, 1) := by decide +kernel
theorem dX0_fitsText_22 : decode cX0_fitsText 22 = .ok (.getfield 19, 3) := by decide +kernel
theorem dX0_fitsText_25 : decode cX0_fitsText 25 = .ok (.iload_n 1, 1) := by decide +kernel
theorem dX0_fitsText_26 : decode cX0_fitsText 26 = .ok (.iaload, 1) := by decide +kernel
theorem dX0_fitsText_27 : decode cX0_fitsText 27 = .ok (.iadd, 1) := by decide +kernel
theorem dX0_fitsText_28 : decode cX0_fitsText 28 = .ok (.iaload, 1) := by decide +kernel
theorem dX0_fitsText_29 : decode cX0_fitsText 29 = .ok (.istore_n 3, 1) := by decide +kernel
theorem dX0_fitsText_30 : decode cX0_fitsText 30 = .ok (.aload_n 0, 1) := by decide +kernel
theorem dX0_fitsText_31 : decode cX0_fitsText 31 = .ok (.getfield 22, 3) := by decide +kernel
theorem dX0_fitsText_34 : decode cX0_fitsText 34 = .ok (.iload_n 1, 1) := by decide +kernel
theorem dX0_fitsText_35 : decode cX0_fitsText 35 = .ok (.iaload, 1) := by decide +kernel
theorem dX0_fitsText_36 : decode cX0_fitsText 36 = .ok (.iconst (-1), 1) := by decide +kernel
theorem dX0_fitsText_37 : decode cX0_fitsText 37 = .ok (.if_icmp .ne 7, 3) := by decide +kernel
theorem dX0_fitsText_40 : decode cX0_fitsText 40 = .ok (.iconst 0, 1) := by decide +kernel
theorem dX0_fitsText_41 : decode cX0_fitsText 41 = .ok (.goto 18, 3) := by decide +kernel
theorem dX0_fitsText_44 : decode cX0_fitsText 44 = .ok (.aload_n 0, 1) := by decide +kernel
theorem dX0_fitsText_45 : decode cX0_fitsText 45 = .ok (.getfield 7, 3) := by decide +kernel
theorem dX0_fitsText_48 : decode cX0_fitsText 48 = .ok (.iload_n 2, 1) := by decide +kernel
theorem dX0_fitsText_49 : decode cX0_fitsText 49 = .ok (.iload_n 1, 1) := by decide +kernel
theorem dX0_fitsText_50 : decode cX0_fitsText 50 = .ok (.isub, 1) := by decide +kernel
theorem dX0_fitsText_51 : decode cX0_fitsText 51 = .ok (.aload_n 0, 1) := by decide +kernel
theorem dX0_fitsText_52 : decode cX0_fitsText 52 = .ok (.getfield 22, 3) := by decide +kernel
theorem dX0_fitsText_55 : decode cX0_fitsText 55 = .ok (.iload_n 1, 1) := by decide +kernel
theorem dX0_fitsText_56 : decode cX0_fitsText 56 = .ok (.iaload, 1) := by decide +kernel
theorem dX0_fitsText_57 : decode cX0_fitsText 57 = .ok (.iadd, 1) := by decide +kernel
theorem dX0_fitsText_58 : decode cX0_fitsText 58 = .ok (.iaload, 1) := by decide +kernel
theorem dX0_fitsText_59 : decode cX0_fitsText 59 = .ok (.istore 4, 2) := by decide +kernel
theorem dX0_fitsText_61 : decode cX0_fitsText 61 = .ok (.aload_n 0, 1) := by decide +kernel
theorem dX0_fitsText_62 : decode cX0_fitsText 62 = .ok (.iload_n 1, 1) := by decide +kernel
theorem dX0_fitsText_63 : decode cX0_fitsText 63 = .ok (.aload_n 0, 1) := by decide +kernel
theorem dX0_fitsText_64 : decode cX0_fitsText 64 = .ok (.getfield 7, 3) := by decide +kernel
theorem dX0_fitsText_67 : decode cX0_fitsText 67 = .ok (.iload_n 2, 1) := by decide +kernel
theorem dX0_fitsText_68 : decode cX0_fitsText 68 = .ok (.iaload, 1) := by decide +kernel
theorem dX0_fitsText_69 : decode cX0_fitsText 69 = .ok (.iload_n 3, 1) := by decide +kernel
theorem dX0_fitsText_70 : decode cX0_fitsText 70 = .ok (.iload 4, 2) := by decide +kernel
theorem dX0_fitsText_72 : decode cX0_fitsText 72 = .ok (.invokevirtual 63, 3) := by decide +kernel
theorem dX0_fitsText_75 : decode cX0_fitsText 75 = .ok (.ireturn, 1) := by decide +kernel
abbrev cX0_endsAt : ByteArray := prog_1_method_21_code
def yX0_endsAt : MethodName := ⟨RX0, "endsAt", "(I)Z"⟩
theorem dX0_endsAt_0 : decode cX0_endsAt 0 = .ok (.aload_n 0, 1) := by decide +kernel
theorem dX0_endsAt_1 : decode cX0_endsAt 1 = .ok (.getfield 32, 3) := by decide +kernel
theorem dX0_endsAt_4 : decode cX0_endsAt 4 = .ok (.ifCond .le 20, 3) := by decide +kernel
theorem dX0_endsAt_7 : decode cX0_endsAt 7 = .ok (.aload_n 0, 1) := by decide +kernel
theorem dX0_endsAt_8 : decode cX0_endsAt 8 = .ok (.getfield 13, 3) := by decide +kernel
theorem dX0_endsAt_11 : decode cX0_endsAt 11 = .ok (.iload_n 1, 1) := by decide +kernel
theorem dX0_endsAt_12 : decode cX0_endsAt 12 = .ok (.iaload, 1) := by decide +kernel
theorem dX0_endsAt_13 : decode cX0_endsAt 13 = .ok (.aload_n 0, 1) := by decide +kernel
theorem dX0_endsAt_14 : decode cX0_endsAt 14 = .ok (.getfield 32, 3) := by decide +kernel
theorem dX0_endsAt_17 : decode cX0_endsAt 17 = .ok (.if_icmp .ne 7, 3) := by decide +kernel
theorem dX0_endsAt_20 : decode cX0_endsAt 20 = .ok (.iconst 1, 1) := by decide +kernel
theorem dX0_endsAt_21 : decode cX0_endsAt 21 = .ok (.goto 4, 3) := by decide +kernel
theorem dX0_endsAt_24 : decode cX0_endsAt 24 = .ok (.iconst 0, 1) := by decide +kernel
theorem dX0_endsAt_25 : decode cX0_endsAt 25 = .ok (.ireturn, 1) := by decide +kernel
abbrev cX0_occurrence : ByteArray := prog_1_method_13_code
def yX0_occurrence : MethodName := ⟨RX0, "occurrence", "(I)I"⟩
theorem dX0_occurrence_0 : decode cX0_occurrence 0 = .ok (.aload_n 0, 1) := by decide +kernel
theorem dX0_occurrence_1 : decode cX0_occurrence 1 = .ok (.invokevirtual 45, 3) := by decide +kernel
theorem dX0_occurrence_4 : decode cX0_occurrence 4 = .ok (.iload_n 1, 1) := by decide +kernel
theorem dX0_occurrence_5 : decode cX0_occurrence 5 = .ok (.istore_n 2, 1) := by decide +kernel
theorem dX0_occurrence_6 : decode cX0_occurrence 6 = .ok (.iconst 0, 1) := by decide +kernel
theorem dX0_occurrence_7 : decode cX0_occurrence 7 = .ok (.istore_n 3, 1) := by decide +kernel
theorem dX0_occurrence_8 : decode cX0_occurrence 8 = .ok (.iload_n 3, 1) := by decide +kernel
theorem dX0_occurrence_9 : decode cX0_occurrence 9 = .ok (.aload_n 0, 1) := by decide +kernel
theorem dX0_occurrence_10 : decode cX0_occurrence 10 = .ok (.getfield 39, 3) := by decide +kernel
theorem dX0_occurrence_13 : decode cX0_occurrence 13 = .ok (.if_icmp .ge 33, 3) := by decide +kernel
theorem dX0_occurrence_16 : decode cX0_occurrence 16 = .ok (.aload_n 0, 1) := by decide +kernel
theorem dX0_occurrence_17 : decode cX0_occurrence 17 = .ok (.iload_n 3, 1) := by decide +kernel
theorem dX0_occurrence_18 : decode cX0_occurrence 18 = .ok (.invokevirtual 48, 3) := by decide +kernel
theorem dX0_occurrence_21 : decode cX0_occurrence 21 = .ok (.ifCond .eq 19, 3) := by decide +kernel
theorem dX0_occurrence_24 : decode cX0_occurrence 24 = .ok (.iload_n 2, 1) := by decide +kernel
theorem dX0_occurrence_25 : decode cX0_occurrence 25 = .ok (.ifCond .ne 12, 3) := by decide +kernel
theorem dX0_occurrence_28 : decode cX0_occurrence 28 = .ok (.iload_n 3, 1) := by decide +kernel
theorem dX0_occurrence_29 : decode cX0_occurrence 29 = .ok (.aload_n 0, 1) := by decide +kernel
theorem dX0_occurrence_30 : decode cX0_occurrence 30 = .ok (.getfield 32, 3) := by decide +kernel
theorem dX0_occurrence_33 : decode cX0_occurrence 33 = .ok (.isub, 1) := by decide +kernel
theorem dX0_occurrence_34 : decode cX0_occurrence 34 = .ok (.iconst 1, 1) := by decide +kernel
theorem dX0_occurrence_35 : decode cX0_occurrence 35 = .ok (.iadd, 1) := by decide +kernel
theorem dX0_occurrence_36 : decode cX0_occurrence 36 = .ok (.ireturn, 1) := by decide +kernel
theorem dX0_occurrence_37 : decode cX0_occurrence 37 = .ok (.iinc 2 (-1), 3) := by decide +kernel
theorem dX0_occurrence_40 : decode cX0_occurrence 40 = .ok (.iinc 3 1, 3) := by decide +kernel
theorem dX0_occurrence_43 : decode cX0_occurrence 43 = .ok (.goto (-35), 3) := by decide +kernel
theorem dX0_occurrence_46 : decode cX0_occurrence 46 = .ok (.iconst (-1), 1) := by decide +kernel
theorem dX0_occurrence_47 : decode cX0_occurrence 47 = .ok (.ireturn, 1) := by decide +kernel
abbrev cX0_occursAt : ByteArray := prog_1_method_14_code
def yX0_occursAt : MethodName := ⟨RX0, "occursAt", "(I)I"⟩
theorem dX0_occursAt_0 : decode cX0_occursAt 0 = .ok (.iload_n 1, 1) := by decide +kernel
theorem dX0_occursAt_1 : decode cX0_occursAt 1 = .ok (.ifCond .lt 16, 3) := by decide +kernel
theorem dX0_occursAt_4 : decode cX0_occursAt 4 = .ok (.iload_n 1, 1) := by decide +kernel
theorem dX0_occursAt_5 : decode cX0_occursAt 5 = .ok (.aload_n 0, 1) := by decide +kernel
theorem dX0_occursAt_6 : decode cX0_occursAt 6 = .ok (.getfield 39, 3) := by decide +kernel
theorem dX0_occursAt_9 : decode cX0_occursAt 9 = .ok (.aload_n 0, 1) := by decide +kernel
theorem dX0_occursAt_10 : decode cX0_occursAt 10 = .ok (.getfield 32, 3) := by decide +kernel
theorem dX0_occursAt_13 : decode cX0_occursAt 13 = .ok (.isub, 1) := by decide +kernel
theorem dX0_occursAt_14 : decode cX0_occursAt 14 = .ok (.if_icmp .le 5, 3) := by decide +kernel
theorem dX0_occursAt_17 : decode cX0_occursAt 17 = .ok (.iconst 0, 1) := by decide +kernel
theorem dX0_occursAt_18 : decode cX0_occursAt 18 = .ok (.ireturn, 1) := by decide +kernel
theorem dX0_occursAt_19 : decode cX0_occursAt 19 = .ok (.aload_n 0, 1) := by decide +kernel
theorem dX0_occursAt_20 : decode cX0_occursAt 20 = .ok (.invokevirtual 45, 3) := by decide +kernel
theorem dX0_occursAt_23 : decode cX0_occursAt 23 = .ok (.aload_n 0, 1) := by decide +kernel
theorem dX0_occursAt_24 : decode cX0_occursAt 24 = .ok (.getfield 32, 3) := by decide +kernel
theorem dX0_occursAt_27 : decode cX0_occursAt 27 = .ok (.ifCond .le 22, 3) := by decide +kernel
theorem dX0_occursAt_30 : decode cX0_occursAt 30 = .ok (.aload_n 0, 1) := by decide +kernel
theorem dX0_occursAt_31 : decode cX0_occursAt 31 = .ok (.iload_n 1, 1) := by decide +kernel
theorem dX0_occursAt_32 : decode cX0_occursAt 32 = .ok (.aload_n 0, 1) := by decide +kernel
theorem dX0_occursAt_33 : decode cX0_occursAt 33 = .ok (.getfield 32, 3) := by decide +kernel
theorem dX0_occursAt_36 : decode cX0_occursAt 36 = .ok (.iadd, 1) := by decide +kernel
theorem dX0_occursAt_37 : decode cX0_occursAt 37 = .ok (.iconst 1, 1) := by decide +kernel
theorem dX0_occursAt_38 : decode cX0_occursAt 38 = .ok (.isub, 1) := by decide +kernel
theorem dX0_occursAt_39 : decode cX0_occursAt 39 = .ok (.invokevirtual 48, 3) := by decide +kernel
theorem dX0_occursAt_42 : decode cX0_occursAt 42 = .ok (.ifCond .eq 7, 3) := by decide +kernel
theorem dX0_occursAt_45 : decode cX0_occursAt 45 = .ok (.iconst 1, 1) := by decide +kernel
theorem dX0_occursAt_46 : decode cX0_occursAt 46 = .ok (.goto 4, 3) := by decide +kernel
theorem dX0_occursAt_49 : decode cX0_occursAt 49 = .ok (.iconst 0, 1) := by decide +kernel
theorem dX0_occursAt_50 : decode cX0_occursAt 50 = .ok (.ireturn, 1) := by decide +kernel
abbrev cX0_nextFrom : ByteArray := prog_1_method_15_code
def yX0_nextFrom : MethodName := ⟨RX0, "nextFrom", "(I)I"⟩
theorem dX0_nextFrom_0 : decode cX0_nextFrom 0 = .ok (.aload_n 0, 1) := by decide +kernel
theorem dX0_nextFrom_1 : decode cX0_nextFrom 1 = .ok (.invokevirtual 45, 3) := by decide +kernel
theorem dX0_nextFrom_4 : decode cX0_nextFrom 4 = .ok (.iload_n 1, 1) := by decide +kernel
theorem dX0_nextFrom_5 : decode cX0_nextFrom 5 = .ok (.ifCond .ge 7, 3) := by decide +kernel
theorem dX0_nextFrom_8 : decode cX0_nextFrom 8 = .ok (.iconst 0, 1) := by decide +kernel
theorem dX0_nextFrom_9 : decode cX0_nextFrom 9 = .ok (.goto 4, 3) := by decide +kernel
theorem dX0_nextFrom_12 : decode cX0_nextFrom 12 = .ok (.iload_n 1, 1) := by decide +kernel
theorem dX0_nextFrom_13 : decode cX0_nextFrom 13 = .ok (.istore_n 2, 1) := by decide +kernel
theorem dX0_nextFrom_14 : decode cX0_nextFrom 14 = .ok (.aload_n 0, 1) := by decide +kernel
theorem dX0_nextFrom_15 : decode cX0_nextFrom 15 = .ok (.getfield 32, 3) := by decide +kernel
theorem dX0_nextFrom_18 : decode cX0_nextFrom 18 = .ok (.ifCond .eq 16, 3) := by decide +kernel
theorem dX0_nextFrom_21 : decode cX0_nextFrom 21 = .ok (.iload_n 2, 1) := by decide +kernel
theorem dX0_nextFrom_22 : decode cX0_nextFrom 22 = .ok (.aload_n 0, 1) := by decide +kernel
theorem dX0_nextFrom_23 : decode cX0_nextFrom 23 = .ok (.getfield 39, 3) := by decide +kernel
theorem dX0_nextFrom_26 : decode cX0_nextFrom 26 = .ok (.aload_n 0, 1) := by decide +kernel
theorem dX0_nextFrom_27 : decode cX0_nextFrom 27 = .ok (.getfield 32, 3) := by decide +kernel
theorem dX0_nextFrom_30 : decode cX0_nextFrom 30 = .ok (.isub, 1) := by decide +kernel
theorem dX0_nextFrom_31 : decode cX0_nextFrom 31 = .ok (.if_icmp .le 5, 3) := by decide +kernel
theorem dX0_nextFrom_34 : decode cX0_nextFrom 34 = .ok (.iconst (-1), 1) := by decide +kernel
theorem dX0_nextFrom_35 : decode cX0_nextFrom 35 = .ok (.ireturn, 1) := by decide +kernel
theorem dX0_nextFrom_36 : decode cX0_nextFrom 36 = .ok (.iload_n 2, 1) := by decide +kernel
theorem dX0_nextFrom_37 : decode cX0_nextFrom 37 = .ok (.aload_n 0, 1) := by decide +kernel
theorem dX0_nextFrom_38 : decode cX0_nextFrom 38 = .ok (.getfield 32, 3) := by decide +kernel
theorem dX0_nextFrom_41 : decode cX0_nextFrom 41 = .ok (.iadd, 1) := by decide +kernel
theorem dX0_nextFrom_42 : decode cX0_nextFrom 42 = .ok (.iconst 1, 1) := by decide +kernel
theorem dX0_nextFrom_43 : decode cX0_nextFrom 43 = .ok (.isub, 1) := by decide +kernel
theorem dX0_nextFrom_44 : decode cX0_nextFrom 44 = .ok (.istore_n 3, 1) := by decide +kernel
theorem dX0_nextFrom_45 : decode cX0_nextFrom 45 = .ok (.iload_n 3, 1) := by decide +kernel
theorem dX0_nextFrom_46 : decode cX0_nextFrom 46 = .ok (.aload_n 0, 1) := by decide +kernel
theorem dX0_nextFrom_47 : decode cX0_nextFrom 47 = .ok (.getfield 39, 3) := by decide +kernel
theorem dX0_nextFrom_50 : decode cX0_nextFrom 50 = .ok (.if_icmp .ge 26, 3) := by decide +kernel
theorem dX0_nextFrom_53 : decode cX0_nextFrom 53 = .ok (.aload_n 0, 1) := by decide +kernel
theorem dX0_nextFrom_54 : decode cX0_nextFrom 54 = .ok (.iload_n 3, 1) := by decide +kernel
theorem dX0_nextFrom_55 : decode cX0_nextFrom 55 = .ok (.invokevirtual 48, 3) := by decide +kernel
theorem dX0_nextFrom_58 : decode cX0_nextFrom 58 = .ok (.ifCond .eq 12, 3) := by decide +kernel
theorem dX0_nextFrom_61 : decode cX0_nextFrom 61 = .ok (.iload_n 3, 1) := by decide +kernel
theorem dX0_nextFrom_62 : decode cX0_nextFrom 62 = .ok (.aload_n 0, 1) := by decide +kernel
theorem dX0_nextFrom_63 : decode cX0_nextFrom 63 = .ok (.getfield 32, 3) := by decide +kernel
theorem dX0_nextFrom_66 : decode cX0_nextFrom 66 = .ok (.isub, 1) := by decide +kernel
theorem dX0_nextFrom_67 : decode cX0_nextFrom 67 = .ok (.iconst 1, 1) := by decide +kernel
theorem dX0_nextFrom_68 : decode cX0_nextFrom 68 = .ok (.iadd, 1) := by decide +kernel
theorem dX0_nextFrom_69 : decode cX0_nextFrom 69 = .ok (.ireturn, 1) := by decide +kernel
theorem dX0_nextFrom_70 : decode cX0_nextFrom 70 = .ok (.iinc 3 1, 3) := by decide +kernel
theorem dX0_nextFrom_73 : decode cX0_nextFrom 73 = .ok (.goto (-28), 3) := by decide +kernel
theorem dX0_nextFrom_76 : decode cX0_nextFrom 76 = .ok (.iconst (-1), 1) := by decide +kernel
theorem dX0_nextFrom_77 : decode cX0_nextFrom 77 = .ok (.ireturn, 1) := by decide +kernel
abbrev cX0_matchedAt : ByteArray := prog_1_method_16_code
def yX0_matchedAt : MethodName := ⟨RX0, "matchedAt", "(I)I"⟩
theorem dX0_matchedAt_0 : decode cX0_matchedAt 0 = .ok (.iload_n 1, 1) := by decide +kernel
theorem dX0_matchedAt_1 : decode cX0_matchedAt 1 = .ok (.ifCond .lt 11, 3) := by decide +kernel
theorem dX0_matchedAt_4 : decode cX0_matchedAt 4 = .ok (.iload_n 1, 1) := by decide +kernel
theorem dX0_matchedAt_5 : decode cX0_matchedAt 5 = .ok (.aload_n 0, 1) := by decide +kernel
theorem dX0_matchedAt_6 : decode cX0_matchedAt 6 = .ok (.getfield 39, 3) := by decide +kernel
theorem dX0_matchedAt_9 : decode cX0_matchedAt 9 = .ok (.if_icmp .lt 5, 3) := by decide +kernel
theorem dX0_matchedAt_12 : decode cX0_matchedAt 12 = .ok (.iconst (-1), 1) := by decide +kernel
theorem dX0_matchedAt_13 : decode cX0_matchedAt 13 = .ok (.ireturn, 1) := by decide +kernel
theorem dX0_matchedAt_14 : decode cX0_matchedAt 14 = .ok (.aload_n 0, 1) := by decide +kernel
theorem dX0_matchedAt_15 : decode cX0_matchedAt 15 = .ok (.invokevirtual 45, 3) := by decide +kernel
theorem dX0_matchedAt_18 : decode cX0_matchedAt 18 = .ok (.aload_n 0, 1) := by decide +kernel
theorem dX0_matchedAt_19 : decode cX0_matchedAt 19 = .ok (.getfield 13, 3) := by decide +kernel
theorem dX0_matchedAt_22 : decode cX0_matchedAt 22 = .ok (.iload_n 1, 1) := by decide +kernel
theorem dX0_matchedAt_23 : decode cX0_matchedAt 23 = .ok (.iaload, 1) := by decide +kernel
theorem dX0_matchedAt_24 : decode cX0_matchedAt 24 = .ok (.ireturn, 1) := by decide +kernel
abbrev cX0_border : ByteArray := prog_1_method_17_code
def yX0_border : MethodName := ⟨RX0, "border", "(I)I"⟩
theorem dX0_border_0 : decode cX0_border 0 = .ok (.iload_n 1, 1) := by decide +kernel
theorem dX0_border_1 : decode cX0_border 1 = .ok (.iconst 1, 1) := by decide +kernel
theorem dX0_border_2 : decode cX0_border 2 = .ok (.if_icmp .lt 11, 3) := by decide +kernel
theorem dX0_border_5 : decode cX0_border 5 = .ok (.iload_n 1, 1) := by decide +kernel
theorem dX0_border_6 : decode cX0_border 6 = .ok (.aload_n 0, 1) := by decide +kernel
theorem dX0_border_7 : decode cX0_border 7 = .ok (.getfield 32, 3) := by decide +kernel
theorem dX0_border_10 : decode cX0_border 10 = .ok (.if_icmp .le 5, 3) := by decide +kernel
theorem dX0_border_13 : decode cX0_border 13 = .ok (.iconst (-1), 1) := by decide +kernel
theorem dX0_border_14 : decode cX0_border 14 = .ok (.ireturn, 1) := by decide +kernel
theorem dX0_border_15 : decode cX0_border 15 = .ok (.aload_n 0, 1) := by decide +kernel
theorem dX0_border_16 : decode cX0_border 16 = .ok (.invokevirtual 52, 3) := by decide +kernel
theorem dX0_border_19 : decode cX0_border 19 = .ok (.aload_n 0, 1) := by decide +kernel
theorem dX0_border_20 : decode cX0_border 20 = .ok (.getfield 25, 3) := by decide +kernel
theorem dX0_border_23 : decode cX0_border 23 = .ok (.iload_n 1, 1) := by decide +kernel
theorem dX0_border_24 : decode cX0_border 24 = .ok (.iaload, 1) := by decide +kernel
theorem dX0_border_25 : decode cX0_border 25 = .ok (.ireturn, 1) := by decide +kernel
abbrev cX0_period : ByteArray := prog_1_method_18_code
def yX0_period : MethodName := ⟨RX0, "period", "()I"⟩
theorem dX0_period_0 : decode cX0_period 0 = .ok (.aload_n 0, 1) := by decide +kernel
theorem dX0_period_1 : decode cX0_period 1 = .ok (.getfield 32, 3) := by decide +kernel
theorem dX0_period_4 : decode cX0_period 4 = .ok (.ifCond .ne 5, 3) := by decide +kernel
theorem dX0_period_7 : decode cX0_period 7 = .ok (.iconst 0, 1) := by decide +kernel
theorem dX0_period_8 : decode cX0_period 8 = .ok (.ireturn, 1) := by decide +kernel
theorem dX0_period_9 : decode cX0_period 9 = .ok (.aload_n 0, 1) := by decide +kernel
theorem dX0_period_10 : decode cX0_period 10 = .ok (.invokevirtual 52, 3) := by decide +kernel
theorem dX0_period_13 : decode cX0_period 13 = .ok (.aload_n 0, 1) := by decide +kernel
theorem dX0_period_14 : decode cX0_period 14 = .ok (.getfield 32, 3) := by decide +kernel
theorem dX0_period_17 : decode cX0_period 17 = .ok (.aload_n 0, 1) := by decide +kernel
theorem dX0_period_18 : decode cX0_period 18 = .ok (.getfield 25, 3) := by decide +kernel
theorem dX0_period_21 : decode cX0_period 21 = .ok (.aload_n 0, 1) := by decide +kernel
theorem dX0_period_22 : decode cX0_period 22 = .ok (.getfield 32, 3) := by decide +kernel
theorem dX0_period_25 : decode cX0_period 25 = .ok (.iaload, 1) := by decide +kernel
theorem dX0_period_26 : decode cX0_period 26 = .ok (.isub, 1) := by decide +kernel
theorem dX0_period_27 : decode cX0_period 27 = .ok (.ireturn, 1) := by decide +kernel
abbrev cX0_rank : ByteArray := prog_1_method_19_code
def yX0_rank : MethodName := ⟨RX0, "rank", "(I)I"⟩
theorem dX0_rank_0 : decode cX0_rank 0 = .ok (.iload_n 1, 1) := by decide +kernel
theorem dX0_rank_1 : decode cX0_rank 1 = .ok (.ifCond .lt 11, 3) := by decide +kernel
theorem dX0_rank_4 : decode cX0_rank 4 = .ok (.iload_n 1, 1) := by decide +kernel
theorem dX0_rank_5 : decode cX0_rank 5 = .ok (.aload_n 0, 1) := by decide +kernel
theorem dX0_rank_6 : decode cX0_rank 6 = .ok (.getfield 32, 3) := by decide +kernel
theorem dX0_rank_9 : decode cX0_rank 9 = .ok (.if_icmp .lt 5, 3) := by decide +kernel
theorem dX0_rank_12 : decode cX0_rank 12 = .ok (.iconst (-1), 1) := by decide +kernel
theorem dX0_rank_13 : decode cX0_rank 13 = .ok (.ireturn, 1) := by decide +kernel
theorem dX0_rank_14 : decode cX0_rank 14 = .ok (.iconst 0, 1) := by decide +kernel
theorem dX0_rank_15 : decode cX0_rank 15 = .ok (.istore_n 2, 1) := by decide +kernel
theorem dX0_rank_16 : decode cX0_rank 16 = .ok (.iconst 0, 1) := by decide +kernel
theorem dX0_rank_17 : decode cX0_rank 17 = .ok (.istore_n 3, 1) := by decide +kernel
theorem dX0_rank_18 : decode cX0_rank 18 = .ok (.iconst 0, 1) := by decide +kernel
theorem dX0_rank_19 : decode cX0_rank 19 = .ok (.istore 4, 2) := by decide +kernel
theorem dX0_rank_21 : decode cX0_rank 21 = .ok (.iload 4, 2) := by decide +kernel
theorem dX0_rank_23 : decode cX0_rank 23 = .ok (.iload_n 1, 1) := by decide +kernel
theorem dX0_rank_24 : decode cX0_rank 24 = .ok (.if_icmp .ge 50, 3) := by decide +kernel
theorem dX0_rank_27 : decode cX0_rank 27 = .ok (.aload_n 0, 1) := by decide +kernel
theorem dX0_rank_28 : decode cX0_rank 28 = .ok (.getfield 16, 3) := by decide +kernel
theorem dX0_rank_31 : decode cX0_rank 31 = .ok (.iload 4, 2) := by decide +kernel
theorem dX0_rank_33 : decode cX0_rank 33 = .ok (.iaload, 1) := by decide +kernel
theorem dX0_rank_34 : decode cX0_rank 34 = .ok (.aload_n 0, 1) := by decide +kernel
theorem dX0_rank_35 : decode cX0_rank 35 = .ok (.getfield 16, 3) := by decide +kernel
theorem dX0_rank_38 : decode cX0_rank 38 = .ok (.iload_n 1, 1) := by decide +kernel
theorem dX0_rank_39 : decode cX0_rank 39 = .ok (.iaload, 1) := by decide +kernel
theorem dX0_rank_40 : decode cX0_rank 40 = .ok (.if_icmp .ge 9, 3) := by decide +kernel
theorem dX0_rank_43 : decode cX0_rank 43 = .ok (.iinc 2 1, 3) := by decide +kernel
theorem dX0_rank_46 : decode cX0_rank 46 = .ok (.goto 22, 3) := by decide +kernel
theorem dX0_rank_49 : decode cX0_rank 49 = .ok (.aload_n 0, 1) := by decide +kernel
theorem dX0_rank_50 : decode cX0_rank 50 = .ok (.getfield 16, 3) := by decide +kernel
theorem dX0_rank_53 : decode cX0_rank 53 = .ok (.iload 4, 2) := by decide +kernel
theorem dX0_rank_55 : decode cX0_rank 55 = .ok (.iaload, 1) := by decide +kernel
theorem dX0_rank_56 : decode cX0_rank 56 = .ok (.aload_n 0, 1) := by decide +kernel
theorem dX0_rank_57 : decode cX0_rank 57 = .ok (.getfield 16, 3) := by decide +kernel
theorem dX0_rank_60 : decode cX0_rank 60 = .ok (.iload_n 1, 1) := by decide +kernel
theorem dX0_rank_61 : decode cX0_rank 61 = .ok (.iaload, 1) := by decide +kernel
theorem dX0_rank_62 : decode cX0_rank 62 = .ok (.if_icmp .ne 6, 3) := by decide +kernel
theorem dX0_rank_65 : decode cX0_rank 65 = .ok (.iinc 3 1, 3) := by decide +kernel
theorem dX0_rank_68 : decode cX0_rank 68 = .ok (.iinc 4 1, 3) := by decide +kernel
theorem dX0_rank_71 : decode cX0_rank 71 = .ok (.goto (-50), 3) := by decide +kernel
theorem dX0_rank_74 : decode cX0_rank 74 = .ok (.iload_n 2, 1) := by decide +kernel
theorem dX0_rank_75 : decode cX0_rank 75 = .ok (.bipush 16, 2) := by decide +kernel
theorem dX0_rank_77 : decode cX0_rank 77 = .ok (.iload_n 3, 1) := by decide +kernel
theorem dX0_rank_78 : decode cX0_rank 78 = .ok (.imul, 1) := by decide +kernel
theorem dX0_rank_79 : decode cX0_rank 79 = .ok (.iadd, 1) := by decide +kernel
theorem dX0_rank_80 : decode cX0_rank 80 = .ok (.ireturn, 1) := by decide +kernel
abbrev cX0_disjoint : ByteArray := prog_1_method_20_code
def yX0_disjoint : MethodName := ⟨RX0, "disjoint", "()I"⟩
theorem dX0_disjoint_0 : decode cX0_disjoint 0 = .ok (.aload_n 0, 1) := by decide +kernel
theorem dX0_disjoint_1 : decode cX0_disjoint 1 = .ok (.invokevirtual 45, 3) := by decide +kernel
theorem dX0_disjoint_4 : decode cX0_disjoint 4 = .ok (.iconst 0, 1) := by decide +kernel
theorem dX0_disjoint_5 : decode cX0_disjoint 5 = .ok (.istore_n 1, 1) := by decide +kernel
theorem dX0_disjoint_6 : decode cX0_disjoint 6 = .ok (.iconst 0, 1) := by decide +kernel
theorem dX0_disjoint_7 : decode cX0_disjoint 7 = .ok (.istore_n 2, 1) := by decide +kernel
theorem dX0_disjoint_8 : decode cX0_disjoint 8 = .ok (.iconst 0, 1) := by decide +kernel
theorem dX0_disjoint_9 : decode cX0_disjoint 9 = .ok (.istore_n 3, 1) := by decide +kernel
theorem dX0_disjoint_10 : decode cX0_disjoint 10 = .ok (.iload_n 3, 1) := by decide +kernel
theorem dX0_disjoint_11 : decode cX0_disjoint 11 = .ok (.aload_n 0, 1) := by decide +kernel
theorem dX0_disjoint_12 : decode cX0_disjoint 12 = .ok (.getfield 39, 3) := by decide +kernel
theorem dX0_disjoint_15 : decode cX0_disjoint 15 = .ok (.if_icmp .ge 36, 3) := by decide +kernel
theorem dX0_disjoint_18 : decode cX0_disjoint 18 = .ok (.aload_n 0, 1) := by decide +kernel
theorem dX0_disjoint_19 : decode cX0_disjoint 19 = .ok (.iload_n 3, 1) := by decide +kernel
theorem dX0_disjoint_20 : decode cX0_disjoint 20 = .ok (.invokevirtual 48, 3) := by decide +kernel
theorem dX0_disjoint_23 : decode cX0_disjoint 23 = .ok (.ifCond .eq 22, 3) := by decide +kernel
theorem dX0_disjoint_26 : decode cX0_disjoint 26 = .ok (.iload_n 3, 1) := by decide +kernel
theorem dX0_disjoint_27 : decode cX0_disjoint 27 = .ok (.aload_n 0, 1) := by decide +kernel
theorem dX0_disjoint_28 : decode cX0_disjoint 28 = .ok (.getfield 32, 3) := by decide +kernel
theorem dX0_disjoint_31 : decode cX0_disjoint 31 = .ok (.isub, 1) := by decide +kernel
theorem dX0_disjoint_32 : decode cX0_disjoint 32 = .ok (.iconst 1, 1) := by decide +kernel
theorem dX0_disjoint_33 : decode cX0_disjoint 33 = .ok (.iadd, 1) := by decide +kernel
theorem dX0_disjoint_34 : decode cX0_disjoint 34 = .ok (.iload_n 2, 1) := by decide +kernel
theorem dX0_disjoint_35 : decode cX0_disjoint 35 = .ok (.if_icmp .lt 10, 3) := by decide +kernel
theorem dX0_disjoint_38 : decode cX0_disjoint 38 = .ok (.iinc 1 1, 3) := by decide +kernel
theorem dX0_disjoint_41 : decode cX0_disjoint 41 = .ok (.iload_n 3, 1) := by decide +kernel
theorem dX0_disjoint_42 : decode cX0_disjoint 42 = .ok (.iconst 1, 1) := by decide +kernel
theorem dX0_disjoint_43 : decode cX0_disjoint 43 = .ok (.iadd, 1) := by decide +kernel
theorem dX0_disjoint_44 : decode cX0_disjoint 44 = .ok (.istore_n 2, 1) := by decide +kernel
theorem dX0_disjoint_45 : decode cX0_disjoint 45 = .ok (.iinc 3 1, 3) := by decide +kernel
theorem dX0_disjoint_48 : decode cX0_disjoint 48 = .ok (.goto (-38), 3) := by decide +kernel
theorem dX0_disjoint_51 : decode cX0_disjoint 51 = .ok (.iload_n 1, 1) := by decide +kernel
theorem dX0_disjoint_52 : decode cX0_disjoint 52 = .ok (.ireturn, 1) := by decide +kernel
theorem q13 : (Jvm.Cond.initialized "OrderMatcher") ∈ lw_all := lw_g (lw_at lw_m1 1 rfl) rfl
theorem q16 : (Jvm.Cond.instantiable "OrderMatcher" (10 : Nat)) ∈ lw_all := lw_g (lw_at lw_m1 4 rfl) rfl
theorem q18 : (Jvm.Cond.instanceMethod ({ cls := "OrderMatcher", name := "<init>", desc := "()V" } : Jvm.MethodName)) ∈ lw_all := lw_g (lw_at lw_m1 6 rfl) rfl
theorem q19 : (Jvm.Cond.code ({ cls := "OrderMatcher", name := "<init>", desc := "()V" } : Jvm.MethodName) prog_1_method_1_code (1 : Nat) (Option.none : Option Jvm.ClassFile.FieldType)) ∈ lw_all := lw_g (lw_at lw_m1 7 rfl) rfl
theorem q20 : (Jvm.Cond.methodLink "OrderMatcher" (1 : Nat) ({ cls := "java/lang/Object", name := "<init>", desc := "()V" } : Jvm.MethodName)) ∈ lw_all := lw_g (lw_at lw_m1 8 rfl) rfl
theorem q23 : (Jvm.Cond.fieldLink "OrderMatcher" (7 : Nat) "OrderMatcher" "text" "[I") ∈ lw_all := lw_g (lw_at lw_m1 11 rfl) rfl
theorem q24 : (Jvm.Cond.fieldLink "OrderMatcher" (13 : Nat) "OrderMatcher" "matched" "[I") ∈ lw_all := lw_g (lw_at lw_m1 12 rfl) rfl
theorem q25 : (Jvm.Cond.fieldLink "OrderMatcher" (16 : Nat) "OrderMatcher" "pattern" "[I") ∈ lw_all := lw_g (lw_at lw_m1 13 rfl) rfl
theorem q26 : (Jvm.Cond.fieldLink "OrderMatcher" (19 : Nat) "OrderMatcher" "below" "[I") ∈ lw_all := lw_g (lw_at lw_m1 14 rfl) rfl
theorem q27 : (Jvm.Cond.fieldLink "OrderMatcher" (22 : Nat) "OrderMatcher" "above" "[I") ∈ lw_all := lw_g (lw_at lw_m1 15 rfl) rfl
theorem q28 : (Jvm.Cond.fieldLink "OrderMatcher" (25 : Nat) "OrderMatcher" "failure" "[I") ∈ lw_all := lw_g (lw_at lw_m1 16 rfl) rfl
theorem q29 : (Jvm.Cond.fieldLink "OrderMatcher" (39 : Nat) "OrderMatcher" "length" "I") ∈ lw_all := lw_g (lw_at lw_m1 17 rfl) rfl
theorem q30 : (Jvm.Cond.fieldLink "OrderMatcher" (32 : Nat) "OrderMatcher" "size" "I") ∈ lw_all := lw_g (lw_at lw_m1 18 rfl) rfl
theorem q31 : (Jvm.Cond.fieldLink "OrderMatcher" (42 : Nat) "OrderMatcher" "known" "I") ∈ lw_all := lw_g (lw_at lw_m1 19 rfl) rfl
theorem q32 : (Jvm.Cond.fieldLink "OrderMatcher" (28 : Nat) "OrderMatcher" "coded" "Z") ∈ lw_all := lw_g (lw_at lw_m1 20 rfl) rfl
theorem q33 : (Jvm.Cond.laysFinal "OrderMatcher" "OrderMatcher" "text" "[I") ∈ lw_all := lw_g (lw_at lw_m1 21 rfl) rfl
theorem q34 : (Jvm.Cond.soleField "OrderMatcher" "text") ∈ lw_all := lw_g (lw_at lw_m1 22 rfl) rfl
theorem q35 : (Jvm.Cond.laysFinal "OrderMatcher" "OrderMatcher" "matched" "[I") ∈ lw_all := lw_g (lw_at lw_m1 23 rfl) rfl
theorem q36 : (Jvm.Cond.soleField "OrderMatcher" "matched") ∈ lw_all := lw_g (lw_at lw_m1 24 rfl) rfl
theorem q37 : (Jvm.Cond.laysFinal "OrderMatcher" "OrderMatcher" "pattern" "[I") ∈ lw_all := lw_g (lw_at lw_m1 25 rfl) rfl
theorem q38 : (Jvm.Cond.soleField "OrderMatcher" "pattern") ∈ lw_all := lw_g (lw_at lw_m1 26 rfl) rfl
theorem q39 : (Jvm.Cond.laysFinal "OrderMatcher" "OrderMatcher" "below" "[I") ∈ lw_all := lw_g (lw_at lw_m1 27 rfl) rfl
theorem q40 : (Jvm.Cond.soleField "OrderMatcher" "below") ∈ lw_all := lw_g (lw_at lw_m1 28 rfl) rfl
theorem q41 : (Jvm.Cond.laysFinal "OrderMatcher" "OrderMatcher" "above" "[I") ∈ lw_all := lw_g (lw_at lw_m1 29 rfl) rfl
theorem q42 : (Jvm.Cond.soleField "OrderMatcher" "above") ∈ lw_all := lw_g (lw_at lw_m1 30 rfl) rfl
theorem q43 : (Jvm.Cond.laysFinal "OrderMatcher" "OrderMatcher" "failure" "[I") ∈ lw_all := lw_g (lw_at lw_m1 31 rfl) rfl
theorem q44 : (Jvm.Cond.soleField "OrderMatcher" "failure") ∈ lw_all := lw_g (lw_at lw_m1 32 rfl) rfl
theorem q45 : (Jvm.Cond.lays "OrderMatcher" "OrderMatcher" "length" "I") ∈ lw_all := lw_g (lw_at lw_m1 33 rfl) rfl
theorem q46 : (Jvm.Cond.soleField "OrderMatcher" "length") ∈ lw_all := lw_g (lw_at lw_m1 34 rfl) rfl
theorem q47 : (Jvm.Cond.lays "OrderMatcher" "OrderMatcher" "size" "I") ∈ lw_all := lw_g (lw_at lw_m1 35 rfl) rfl
theorem q48 : (Jvm.Cond.soleField "OrderMatcher" "size") ∈ lw_all := lw_g (lw_at lw_m1 36 rfl) rfl
theorem q49 : (Jvm.Cond.lays "OrderMatcher" "OrderMatcher" "known" "I") ∈ lw_all := lw_g (lw_at lw_m1 37 rfl) rfl
theorem q50 : (Jvm.Cond.soleField "OrderMatcher" "known") ∈ lw_all := lw_g (lw_at lw_m1 38 rfl) rfl
theorem q51 : (Jvm.Cond.lays "OrderMatcher" "OrderMatcher" "coded" "Z") ∈ lw_all := lw_g (lw_at lw_m1 39 rfl) rfl
theorem q52 : (Jvm.Cond.soleField "OrderMatcher" "coded") ∈ lw_all := lw_g (lw_at lw_m1 40 rfl) rfl
theorem q53 : (Jvm.Cond.superclass "OrderMatcher" "java/lang/Object") ∈ lw_all := lw_g (lw_at lw_m1 41 rfl) rfl
theorem q56 : (Jvm.Cond.instanceMethod ({ cls := "OrderMatcher", name := "pattern", desc := "(I)I" } : Jvm.MethodName)) ∈ lw_all := lw_g (lw_at lw_m1 44 rfl) rfl
theorem q57 : (Jvm.Cond.selects "OrderMatcher" ({ cls := "OrderMatcher", name := "pattern", desc := "(I)I" } : Jvm.MethodName) ({ cls := "OrderMatcher", name := "pattern", desc := "(I)I" } : Jvm.MethodName)) ∈ lw_all := lw_g (lw_at lw_m1 45 rfl) rfl
theorem q58 : (Jvm.Cond.code ({ cls := "OrderMatcher", name := "pattern", desc := "(I)I" } : Jvm.MethodName) prog_1_method_2_code (2 : Nat) (Option.some Jvm.ClassFile.FieldType.int)) ∈ lw_all := lw_g (lw_at lw_m1 46 rfl) rfl
theorem q59 : (Jvm.Cond.methodLink "OrderMatcher" (36 : Nat) ({ cls := "OrderMatcher", name := "changed", desc := "()V" } : Jvm.MethodName)) ∈ lw_all := lw_g (lw_at lw_m1 47 rfl) rfl
theorem q60 : (Jvm.Cond.privateMethod ({ cls := "OrderMatcher", name := "changed", desc := "()V" } : Jvm.MethodName)) ∈ lw_tbl := lw_at lw_m1 48 rfl
theorem q61 : (Jvm.Cond.instanceMethod ({ cls := "OrderMatcher", name := "changed", desc := "()V" } : Jvm.MethodName)) ∈ lw_all := lw_g (lw_at lw_m1 49 rfl) rfl
theorem q62 : (Jvm.Cond.code ({ cls := "OrderMatcher", name := "changed", desc := "()V" } : Jvm.MethodName) prog_1_method_22_code (1 : Nat) (Option.none : Option Jvm.ClassFile.FieldType)) ∈ lw_all := lw_g (lw_at lw_m1 50 rfl) rfl
theorem q64 : (Jvm.Cond.instanceMethod ({ cls := "OrderMatcher", name := "clearPattern", desc := "()I" } : Jvm.MethodName)) ∈ lw_all := lw_g (lw_at lw_m1 52 rfl) rfl
theorem q65 : (Jvm.Cond.selects "OrderMatcher" ({ cls := "OrderMatcher", name := "clearPattern", desc := "()I" } : Jvm.MethodName) ({ cls := "OrderMatcher", name := "clearPattern", desc := "()I" } : Jvm.MethodName)) ∈ lw_all := lw_g (lw_at lw_m1 53 rfl) rfl
theorem q66 : (Jvm.Cond.code ({ cls := "OrderMatcher", name := "clearPattern", desc := "()I" } : Jvm.MethodName) prog_1_method_3_code (2 : Nat) (Option.some Jvm.ClassFile.FieldType.int)) ∈ lw_all := lw_g (lw_at lw_m1 54 rfl) rfl
theorem q68 : (Jvm.Cond.instanceMethod ({ cls := "OrderMatcher", name := "take", desc := "(II)I" } : Jvm.MethodName)) ∈ lw_all := lw_g (lw_at lw_m1 56 rfl) rfl
theorem q69 : (Jvm.Cond.selects "OrderMatcher" ({ cls := "OrderMatcher", name := "take", desc := "(II)I" } : Jvm.MethodName) ({ cls := "OrderMatcher", name := "take", desc := "(II)I" } : Jvm.MethodName)) ∈ lw_all := lw_g (lw_at lw_m1 57 rfl) rfl
theorem q70 : (Jvm.Cond.code ({ cls := "OrderMatcher", name := "take", desc := "(II)I" } : Jvm.MethodName) prog_1_method_4_code (4 : Nat) (Option.some Jvm.ClassFile.FieldType.int)) ∈ lw_all := lw_g (lw_at lw_m1 58 rfl) rfl
theorem q72 : (Jvm.Cond.instanceMethod ({ cls := "OrderMatcher", name := "feed", desc := "(I)I" } : Jvm.MethodName)) ∈ lw_all := lw_g (lw_at lw_m1 60 rfl) rfl
theorem q73 : (Jvm.Cond.selects "OrderMatcher" ({ cls := "OrderMatcher", name := "feed", desc := "(I)I" } : Jvm.MethodName) ({ cls := "OrderMatcher", name := "feed", desc := "(I)I" } : Jvm.MethodName)) ∈ lw_all := lw_g (lw_at lw_m1 61 rfl) rfl
theorem q74 : (Jvm.Cond.code ({ cls := "OrderMatcher", name := "feed", desc := "(I)I" } : Jvm.MethodName) prog_1_method_5_code (2 : Nat) (Option.some Jvm.ClassFile.FieldType.int)) ∈ lw_all := lw_g (lw_at lw_m1 62 rfl) rfl
theorem q76 : (Jvm.Cond.instanceMethod ({ cls := "OrderMatcher", name := "ramp", desc := "(III)I" } : Jvm.MethodName)) ∈ lw_all := lw_g (lw_at lw_m1 64 rfl) rfl
theorem q77 : (Jvm.Cond.selects "OrderMatcher" ({ cls := "OrderMatcher", name := "ramp", desc := "(III)I" } : Jvm.MethodName) ({ cls := "OrderMatcher", name := "ramp", desc := "(III)I" } : Jvm.MethodName)) ∈ lw_all := lw_g (lw_at lw_m1 65 rfl) rfl
theorem q78 : (Jvm.Cond.code ({ cls := "OrderMatcher", name := "ramp", desc := "(III)I" } : Jvm.MethodName) prog_1_method_6_code (5 : Nat) (Option.some Jvm.ClassFile.FieldType.int)) ∈ lw_all := lw_g (lw_at lw_m1 66 rfl) rfl
theorem q80 : (Jvm.Cond.instanceMethod ({ cls := "OrderMatcher", name := "echo", desc := "(III)I" } : Jvm.MethodName)) ∈ lw_all := lw_g (lw_at lw_m1 68 rfl) rfl
theorem q81 : (Jvm.Cond.selects "OrderMatcher" ({ cls := "OrderMatcher", name := "echo", desc := "(III)I" } : Jvm.MethodName) ({ cls := "OrderMatcher", name := "echo", desc := "(III)I" } : Jvm.MethodName)) ∈ lw_all := lw_g (lw_at lw_m1 69 rfl) rfl
theorem q82 : (Jvm.Cond.code ({ cls := "OrderMatcher", name := "echo", desc := "(III)I" } : Jvm.MethodName) prog_1_method_7_code (7 : Nat) (Option.some Jvm.ClassFile.FieldType.int)) ∈ lw_all := lw_g (lw_at lw_m1 70 rfl) rfl
theorem q84 : (Jvm.Cond.instanceMethod ({ cls := "OrderMatcher", name := "undo", desc := "(I)I" } : Jvm.MethodName)) ∈ lw_all := lw_g (lw_at lw_m1 72 rfl) rfl
theorem q85 : (Jvm.Cond.selects "OrderMatcher" ({ cls := "OrderMatcher", name := "undo", desc := "(I)I" } : Jvm.MethodName) ({ cls := "OrderMatcher", name := "undo", desc := "(I)I" } : Jvm.MethodName)) ∈ lw_all := lw_g (lw_at lw_m1 73 rfl) rfl
theorem q86 : (Jvm.Cond.code ({ cls := "OrderMatcher", name := "undo", desc := "(I)I" } : Jvm.MethodName) prog_1_method_8_code (2 : Nat) (Option.some Jvm.ClassFile.FieldType.int)) ∈ lw_all := lw_g (lw_at lw_m1 74 rfl) rfl
theorem q88 : (Jvm.Cond.instanceMethod ({ cls := "OrderMatcher", name := "length", desc := "()I" } : Jvm.MethodName)) ∈ lw_all := lw_g (lw_at lw_m1 76 rfl) rfl
theorem q89 : (Jvm.Cond.selects "OrderMatcher" ({ cls := "OrderMatcher", name := "length", desc := "()I" } : Jvm.MethodName) ({ cls := "OrderMatcher", name := "length", desc := "()I" } : Jvm.MethodName)) ∈ lw_all := lw_g (lw_at lw_m1 77 rfl) rfl
theorem q90 : (Jvm.Cond.code ({ cls := "OrderMatcher", name := "length", desc := "()I" } : Jvm.MethodName) prog_1_method_9_code (1 : Nat) (Option.some Jvm.ClassFile.FieldType.int)) ∈ lw_all := lw_g (lw_at lw_m1 78 rfl) rfl
theorem q92 : (Jvm.Cond.instanceMethod ({ cls := "OrderMatcher", name := "patternLength", desc := "()I" } : Jvm.MethodName)) ∈ lw_all := lw_g (lw_at lw_m1 80 rfl) rfl
theorem q93 : (Jvm.Cond.selects "OrderMatcher" ({ cls := "OrderMatcher", name := "patternLength", desc := "()I" } : Jvm.MethodName) ({ cls := "OrderMatcher", name := "patternLength", desc := "()I" } : Jvm.MethodName)) ∈ lw_all := lw_g (lw_at lw_m1 81 rfl) rfl
theorem q94 : (Jvm.Cond.code ({ cls := "OrderMatcher", name := "patternLength", desc := "()I" } : Jvm.MethodName) prog_1_method_10_code (1 : Nat) (Option.some Jvm.ClassFile.FieldType.int)) ∈ lw_all := lw_g (lw_at lw_m1 82 rfl) rfl
theorem q96 : (Jvm.Cond.instanceMethod ({ cls := "OrderMatcher", name := "valueAt", desc := "(I)I" } : Jvm.MethodName)) ∈ lw_all := lw_g (lw_at lw_m1 84 rfl) rfl
theorem q97 : (Jvm.Cond.selects "OrderMatcher" ({ cls := "OrderMatcher", name := "valueAt", desc := "(I)I" } : Jvm.MethodName) ({ cls := "OrderMatcher", name := "valueAt", desc := "(I)I" } : Jvm.MethodName)) ∈ lw_all := lw_g (lw_at lw_m1 85 rfl) rfl
theorem q98 : (Jvm.Cond.code ({ cls := "OrderMatcher", name := "valueAt", desc := "(I)I" } : Jvm.MethodName) prog_1_method_11_code (2 : Nat) (Option.some Jvm.ClassFile.FieldType.int)) ∈ lw_all := lw_g (lw_at lw_m1 86 rfl) rfl
theorem q100 : (Jvm.Cond.instanceMethod ({ cls := "OrderMatcher", name := "occurrences", desc := "()I" } : Jvm.MethodName)) ∈ lw_all := lw_g (lw_at lw_m1 88 rfl) rfl
theorem q101 : (Jvm.Cond.selects "OrderMatcher" ({ cls := "OrderMatcher", name := "occurrences", desc := "()I" } : Jvm.MethodName) ({ cls := "OrderMatcher", name := "occurrences", desc := "()I" } : Jvm.MethodName)) ∈ lw_all := lw_g (lw_at lw_m1 89 rfl) rfl
theorem q102 : (Jvm.Cond.code ({ cls := "OrderMatcher", name := "occurrences", desc := "()I" } : Jvm.MethodName) prog_1_method_12_code (3 : Nat) (Option.some Jvm.ClassFile.FieldType.int)) ∈ lw_all := lw_g (lw_at lw_m1 90 rfl) rfl
theorem q103 : (Jvm.Cond.methodLink "OrderMatcher" (45 : Nat) ({ cls := "OrderMatcher", name := "refresh", desc := "()V" } : Jvm.MethodName)) ∈ lw_all := lw_g (lw_at lw_m1 91 rfl) rfl
theorem q104 : (Jvm.Cond.privateMethod ({ cls := "OrderMatcher", name := "refresh", desc := "()V" } : Jvm.MethodName)) ∈ lw_tbl := lw_at lw_m1 92 rfl
theorem q105 : (Jvm.Cond.instanceMethod ({ cls := "OrderMatcher", name := "refresh", desc := "()V" } : Jvm.MethodName)) ∈ lw_all := lw_g (lw_at lw_m1 93 rfl) rfl
theorem q106 : (Jvm.Cond.code ({ cls := "OrderMatcher", name := "refresh", desc := "()V" } : Jvm.MethodName) prog_1_method_28_code (4 : Nat) (Option.none : Option Jvm.ClassFile.FieldType)) ∈ lw_all := lw_g (lw_at lw_m1 94 rfl) rfl
theorem q107 : (Jvm.Cond.methodLink "OrderMatcher" (52 : Nat) ({ cls := "OrderMatcher", name := "code", desc := "()V" } : Jvm.MethodName)) ∈ lw_all := lw_g (lw_at lw_m1 95 rfl) rfl
theorem q108 : (Jvm.Cond.privateMethod ({ cls := "OrderMatcher", name := "code", desc := "()V" } : Jvm.MethodName)) ∈ lw_tbl := lw_at lw_m1 96 rfl
theorem q109 : (Jvm.Cond.instanceMethod ({ cls := "OrderMatcher", name := "code", desc := "()V" } : Jvm.MethodName)) ∈ lw_all := lw_g (lw_at lw_m1 97 rfl) rfl
theorem q110 : (Jvm.Cond.code ({ cls := "OrderMatcher", name := "code", desc := "()V" } : Jvm.MethodName) prog_1_method_23_code (4 : Nat) (Option.none : Option Jvm.ClassFile.FieldType)) ∈ lw_all := lw_g (lw_at lw_m1 98 rfl) rfl
theorem q111 : (Jvm.Cond.methodLink "OrderMatcher" (55 : Nat) ({ cls := "OrderMatcher", name := "findNeighbours", desc := "(I)V" } : Jvm.MethodName)) ∈ lw_all := lw_g (lw_at lw_m1 99 rfl) rfl
theorem q112 : (Jvm.Cond.privateMethod ({ cls := "OrderMatcher", name := "findNeighbours", desc := "(I)V" } : Jvm.MethodName)) ∈ lw_tbl := lw_at lw_m1 100 rfl
theorem q113 : (Jvm.Cond.instanceMethod ({ cls := "OrderMatcher", name := "findNeighbours", desc := "(I)V" } : Jvm.MethodName)) ∈ lw_all := lw_g (lw_at lw_m1 101 rfl) rfl
theorem q114 : (Jvm.Cond.code ({ cls := "OrderMatcher", name := "findNeighbours", desc := "(I)V" } : Jvm.MethodName) prog_1_method_24_code (3 : Nat) (Option.none : Option Jvm.ClassFile.FieldType)) ∈ lw_all := lw_g (lw_at lw_m1 102 rfl) rfl
theorem q115 : (Jvm.Cond.methodLink "OrderMatcher" (59 : Nat) ({ cls := "OrderMatcher", name := "fitsPattern", desc := "(II)Z" } : Jvm.MethodName)) ∈ lw_all := lw_g (lw_at lw_m1 103 rfl) rfl
theorem q116 : (Jvm.Cond.privateMethod ({ cls := "OrderMatcher", name := "fitsPattern", desc := "(II)Z" } : Jvm.MethodName)) ∈ lw_tbl := lw_at lw_m1 104 rfl
theorem q117 : (Jvm.Cond.instanceMethod ({ cls := "OrderMatcher", name := "fitsPattern", desc := "(II)Z" } : Jvm.MethodName)) ∈ lw_all := lw_g (lw_at lw_m1 105 rfl) rfl
theorem q118 : (Jvm.Cond.code ({ cls := "OrderMatcher", name := "fitsPattern", desc := "(II)Z" } : Jvm.MethodName) prog_1_method_26_code (5 : Nat) (Option.some Jvm.ClassFile.FieldType.boolean)) ∈ lw_all := lw_g (lw_at lw_m1 106 rfl) rfl
theorem q119 : (Jvm.Cond.methodLink "OrderMatcher" (63 : Nat) ({ cls := "OrderMatcher", name := "compares", desc := "(IIII)Z" } : Jvm.MethodName)) ∈ lw_all := lw_g (lw_at lw_m1 107 rfl) rfl
theorem q120 : (Jvm.Cond.privateMethod ({ cls := "OrderMatcher", name := "compares", desc := "(IIII)Z" } : Jvm.MethodName)) ∈ lw_tbl := lw_at lw_m1 108 rfl
theorem q121 : (Jvm.Cond.instanceMethod ({ cls := "OrderMatcher", name := "compares", desc := "(IIII)Z" } : Jvm.MethodName)) ∈ lw_all := lw_g (lw_at lw_m1 109 rfl) rfl
theorem q122 : (Jvm.Cond.code ({ cls := "OrderMatcher", name := "compares", desc := "(IIII)Z" } : Jvm.MethodName) prog_1_method_25_code (7 : Nat) (Option.some Jvm.ClassFile.FieldType.boolean)) ∈ lw_all := lw_g (lw_at lw_m1 110 rfl) rfl
theorem q123 : (Jvm.Cond.methodLink "OrderMatcher" (67 : Nat) ({ cls := "OrderMatcher", name := "fitsText", desc := "(II)Z" } : Jvm.MethodName)) ∈ lw_all := lw_g (lw_at lw_m1 111 rfl) rfl
theorem q124 : (Jvm.Cond.privateMethod ({ cls := "OrderMatcher", name := "fitsText", desc := "(II)Z" } : Jvm.MethodName)) ∈ lw_tbl := lw_at lw_m1 112 rfl
theorem q125 : (Jvm.Cond.instanceMethod ({ cls := "OrderMatcher", name := "fitsText", desc := "(II)Z" } : Jvm.MethodName)) ∈ lw_all := lw_g (lw_at lw_m1 113 rfl) rfl
theorem q126 : (Jvm.Cond.code ({ cls := "OrderMatcher", name := "fitsText", desc := "(II)Z" } : Jvm.MethodName) prog_1_method_27_code (5 : Nat) (Option.some Jvm.ClassFile.FieldType.boolean)) ∈ lw_all := lw_g (lw_at lw_m1 114 rfl) rfl
theorem q127 : (Jvm.Cond.methodLink "OrderMatcher" (48 : Nat) ({ cls := "OrderMatcher", name := "endsAt", desc := "(I)Z" } : Jvm.MethodName)) ∈ lw_all := lw_g (lw_at lw_m1 115 rfl) rfl
theorem q128 : (Jvm.Cond.privateMethod ({ cls := "OrderMatcher", name := "endsAt", desc := "(I)Z" } : Jvm.MethodName)) ∈ lw_tbl := lw_at lw_m1 116 rfl
theorem q129 : (Jvm.Cond.instanceMethod ({ cls := "OrderMatcher", name := "endsAt", desc := "(I)Z" } : Jvm.MethodName)) ∈ lw_all := lw_g (lw_at lw_m1 117 rfl) rfl
theorem q130 : (Jvm.Cond.code ({ cls := "OrderMatcher", name := "endsAt", desc := "(I)Z" } : Jvm.MethodName) prog_1_method_21_code (2 : Nat) (Option.some Jvm.ClassFile.FieldType.boolean)) ∈ lw_all := lw_g (lw_at lw_m1 118 rfl) rfl
theorem q132 : (Jvm.Cond.instanceMethod ({ cls := "OrderMatcher", name := "occurrence", desc := "(I)I" } : Jvm.MethodName)) ∈ lw_all := lw_g (lw_at lw_m1 120 rfl) rfl
theorem q133 : (Jvm.Cond.selects "OrderMatcher" ({ cls := "OrderMatcher", name := "occurrence", desc := "(I)I" } : Jvm.MethodName) ({ cls := "OrderMatcher", name := "occurrence", desc := "(I)I" } : Jvm.MethodName)) ∈ lw_all := lw_g (lw_at lw_m1 121 rfl) rfl
theorem q134 : (Jvm.Cond.code ({ cls := "OrderMatcher", name := "occurrence", desc := "(I)I" } : Jvm.MethodName) prog_1_method_13_code (4 : Nat) (Option.some Jvm.ClassFile.FieldType.int)) ∈ lw_all := lw_g (lw_at lw_m1 122 rfl) rfl
theorem q136 : (Jvm.Cond.instanceMethod ({ cls := "OrderMatcher", name := "occursAt", desc := "(I)I" } : Jvm.MethodName)) ∈ lw_all := lw_g (lw_at lw_m1 124 rfl) rfl
theorem q137 : (Jvm.Cond.selects "OrderMatcher" ({ cls := "OrderMatcher", name := "occursAt", desc := "(I)I" } : Jvm.MethodName) ({ cls := "OrderMatcher", name := "occursAt", desc := "(I)I" } : Jvm.MethodName)) ∈ lw_all := lw_g (lw_at lw_m1 125 rfl) rfl
theorem q138 : (Jvm.Cond.code ({ cls := "OrderMatcher", name := "occursAt", desc := "(I)I" } : Jvm.MethodName) prog_1_method_14_code (2 : Nat) (Option.some Jvm.ClassFile.FieldType.int)) ∈ lw_all := lw_g (lw_at lw_m1 126 rfl) rfl
theorem q140 : (Jvm.Cond.instanceMethod ({ cls := "OrderMatcher", name := "nextFrom", desc := "(I)I" } : Jvm.MethodName)) ∈ lw_all := lw_g (lw_at lw_m1 128 rfl) rfl
theorem q141 : (Jvm.Cond.selects "OrderMatcher" ({ cls := "OrderMatcher", name := "nextFrom", desc := "(I)I" } : Jvm.MethodName) ({ cls := "OrderMatcher", name := "nextFrom", desc := "(I)I" } : Jvm.MethodName)) ∈ lw_all := lw_g (lw_at lw_m1 129 rfl) rfl
theorem q142 : (Jvm.Cond.code ({ cls := "OrderMatcher", name := "nextFrom", desc := "(I)I" } : Jvm.MethodName) prog_1_method_15_code (4 : Nat) (Option.some Jvm.ClassFile.FieldType.int)) ∈ lw_all := lw_g (lw_at lw_m1 130 rfl) rfl
theorem q144 : (Jvm.Cond.instanceMethod ({ cls := "OrderMatcher", name := "matchedAt", desc := "(I)I" } : Jvm.MethodName)) ∈ lw_all := lw_g (lw_at lw_m1 132 rfl) rfl
theorem q145 : (Jvm.Cond.selects "OrderMatcher" ({ cls := "OrderMatcher", name := "matchedAt", desc := "(I)I" } : Jvm.MethodName) ({ cls := "OrderMatcher", name := "matchedAt", desc := "(I)I" } : Jvm.MethodName)) ∈ lw_all := lw_g (lw_at lw_m1 133 rfl) rfl
theorem q146 : (Jvm.Cond.code ({ cls := "OrderMatcher", name := "matchedAt", desc := "(I)I" } : Jvm.MethodName) prog_1_method_16_code (2 : Nat) (Option.some Jvm.ClassFile.FieldType.int)) ∈ lw_all := lw_g (lw_at lw_m1 134 rfl) rfl
theorem q148 : (Jvm.Cond.instanceMethod ({ cls := "OrderMatcher", name := "border", desc := "(I)I" } : Jvm.MethodName)) ∈ lw_all := lw_g (lw_at lw_m1 136 rfl) rfl
theorem q149 : (Jvm.Cond.selects "OrderMatcher" ({ cls := "OrderMatcher", name := "border", desc := "(I)I" } : Jvm.MethodName) ({ cls := "OrderMatcher", name := "border", desc := "(I)I" } : Jvm.MethodName)) ∈ lw_all := lw_g (lw_at lw_m1 137 rfl) rfl
theorem q150 : (Jvm.Cond.code ({ cls := "OrderMatcher", name := "border", desc := "(I)I" } : Jvm.MethodName) prog_1_method_17_code (2 : Nat) (Option.some Jvm.ClassFile.FieldType.int)) ∈ lw_all := lw_g (lw_at lw_m1 138 rfl) rfl
theorem q152 : (Jvm.Cond.instanceMethod ({ cls := "OrderMatcher", name := "period", desc := "()I" } : Jvm.MethodName)) ∈ lw_all := lw_g (lw_at lw_m1 140 rfl) rfl
theorem q153 : (Jvm.Cond.selects "OrderMatcher" ({ cls := "OrderMatcher", name := "period", desc := "()I" } : Jvm.MethodName) ({ cls := "OrderMatcher", name := "period", desc := "()I" } : Jvm.MethodName)) ∈ lw_all := lw_g (lw_at lw_m1 141 rfl) rfl
theorem q154 : (Jvm.Cond.code ({ cls := "OrderMatcher", name := "period", desc := "()I" } : Jvm.MethodName) prog_1_method_18_code (1 : Nat) (Option.some Jvm.ClassFile.FieldType.int)) ∈ lw_all := lw_g (lw_at lw_m1 142 rfl) rfl
theorem q156 : (Jvm.Cond.instanceMethod ({ cls := "OrderMatcher", name := "rank", desc := "(I)I" } : Jvm.MethodName)) ∈ lw_all := lw_g (lw_at lw_m1 144 rfl) rfl
theorem q157 : (Jvm.Cond.selects "OrderMatcher" ({ cls := "OrderMatcher", name := "rank", desc := "(I)I" } : Jvm.MethodName) ({ cls := "OrderMatcher", name := "rank", desc := "(I)I" } : Jvm.MethodName)) ∈ lw_all := lw_g (lw_at lw_m1 145 rfl) rfl
theorem q158 : (Jvm.Cond.code ({ cls := "OrderMatcher", name := "rank", desc := "(I)I" } : Jvm.MethodName) prog_1_method_19_code (5 : Nat) (Option.some Jvm.ClassFile.FieldType.int)) ∈ lw_all := lw_g (lw_at lw_m1 146 rfl) rfl
theorem q160 : (Jvm.Cond.instanceMethod ({ cls := "OrderMatcher", name := "disjoint", desc := "()I" } : Jvm.MethodName)) ∈ lw_all := lw_g (lw_at lw_m1 148 rfl) rfl
theorem q161 : (Jvm.Cond.selects "OrderMatcher" ({ cls := "OrderMatcher", name := "disjoint", desc := "()I" } : Jvm.MethodName) ({ cls := "OrderMatcher", name := "disjoint", desc := "()I" } : Jvm.MethodName)) ∈ lw_all := lw_g (lw_at lw_m1 149 rfl) rfl
theorem q162 : (Jvm.Cond.code ({ cls := "OrderMatcher", name := "disjoint", desc := "()I" } : Jvm.MethodName) prog_1_method_20_code (4 : Nat) (Option.some Jvm.ClassFile.FieldType.int)) ∈ lw_all := lw_g (lw_at lw_m1 150 rfl) rfl
theorem in_X0 : ∀ w ∈ wsX00, w ∈ lw_all := lw_in wsX00 [33, 35, 37, 39, 41, 43, 45, 47, 49, 51] (by decide +kernel) (by decide +kernel)
end
section
/-! OrderMatcherModel -/
set_option maxRecDepth 100000
def RX1 : String := "OrderMatcherModel"
def TX1 : u_T := fun k => match k with
  | 0 => ("OrderMatcherModel", "value", "[I", false)
  | 1 => ("OrderMatcherModel", "length", "I", false)
  | 2 => ("OrderMatcherModel", "size", "I", false)
  | _ => ("OrderMatcherModel", "best", "[I", false)
def tyX1 : Nat → FieldType := fun k => match k with
  | 0 => .array .int
  | 1 => .int
  | 2 => .int
  | _ => .array .int
abbrev wsX10 : List Cond := u_ws RX1 TX1 4
theorem nmX1 : ∀ a, a < 4 → ∀ b, b < 4 → a ≠ b → (TX1 a).2.1 ≠ (TX1 b).2.1 := by decide +kernel
theorem tyX1_ok : ∀ k, k < 4 → parseFieldDescriptor (TX1 k).2.2.1 = some (tyX1 k) := by decide +kernel
abbrev cX1_init : ByteArray := prog_3_method_1_code
def yX1_init : MethodName := ⟨RX1, "<init>", "()V"⟩
theorem dX1_init_0 : decode cX1_init 0 = .ok (.aload_n 0, 1) := by decide +kernel
theorem dX1_init_1 : decode cX1_init 1 = .ok (.invokespecial 1, 3) := by decide +kernel
theorem dX1_init_4 : decode cX1_init 4 = .ok (.aload_n 0, 1) := by decide +kernel
theorem dX1_init_5 : decode cX1_init 5 = .ok (.bipush 70, 2) := by decide +kernel
theorem dX1_init_7 : decode cX1_init 7 = .ok (.newarray .int, 2) := by decide +kernel
theorem dX1_init_9 : decode cX1_init 9 = .ok (.putfield 7, 3) := by decide +kernel
theorem dX1_init_12 : decode cX1_init 12 = .ok (.aload_n 0, 1) := by decide +kernel
theorem dX1_init_13 : decode cX1_init 13 = .ok (.bipush 61, 2) := by decide +kernel
theorem dX1_init_15 : decode cX1_init 15 = .ok (.newarray .int, 2) := by decide +kernel
theorem dX1_init_17 : decode cX1_init 17 = .ok (.putfield 13, 3) := by decide +kernel
theorem dX1_init_20 : decode cX1_init 20 = .ok (.return_, 1) := by decide +kernel
abbrev cX1_pattern : ByteArray := prog_3_method_2_code
def yX1_pattern : MethodName := ⟨RX1, "pattern", "(I)I"⟩
theorem dX1_pattern_0 : decode cX1_pattern 0 = .ok (.aload_n 0, 1) := by decide +kernel
theorem dX1_pattern_1 : decode cX1_pattern 1 = .ok (.getfield 16, 3) := by decide +kernel
theorem dX1_pattern_4 : decode cX1_pattern 4 = .ok (.bipush 10, 2) := by decide +kernel
theorem dX1_pattern_6 : decode cX1_pattern 6 = .ok (.if_icmp .lt 5, 3) := by decide +kernel
theorem dX1_pattern_9 : decode cX1_pattern 9 = .ok (.iconst (-1), 1) := by decide +kernel
theorem dX1_pattern_10 : decode cX1_pattern 10 = .ok (.ireturn, 1) := by decide +kernel
theorem dX1_pattern_11 : decode cX1_pattern 11 = .ok (.aload_n 0, 1) := by decide +kernel
theorem dX1_pattern_12 : decode cX1_pattern 12 = .ok (.getfield 7, 3) := by decide +kernel
theorem dX1_pattern_15 : decode cX1_pattern 15 = .ok (.bipush 60, 2) := by decide +kernel
theorem dX1_pattern_17 : decode cX1_pattern 17 = .ok (.aload_n 0, 1) := by decide +kernel
theorem dX1_pattern_18 : decode cX1_pattern 18 = .ok (.getfield 16, 3) := by decide +kernel
theorem dX1_pattern_21 : decode cX1_pattern 21 = .ok (.iadd, 1) := by decide +kernel
theorem dX1_pattern_22 : decode cX1_pattern 22 = .ok (.iload_n 1, 1) := by decide +kernel
theorem dX1_pattern_23 : decode cX1_pattern 23 = .ok (.iastore, 1) := by decide +kernel
theorem dX1_pattern_24 : decode cX1_pattern 24 = .ok (.aload_n 0, 1) := by decide +kernel
theorem dX1_pattern_25 : decode cX1_pattern 25 = .ok (.dup, 1) := by decide +kernel
theorem dX1_pattern_26 : decode cX1_pattern 26 = .ok (.getfield 16, 3) := by decide +kernel
theorem dX1_pattern_29 : decode cX1_pattern 29 = .ok (.iconst 1, 1) := by decide +kernel
theorem dX1_pattern_30 : decode cX1_pattern 30 = .ok (.iadd, 1) := by decide +kernel
theorem dX1_pattern_31 : decode cX1_pattern 31 = .ok (.putfield 16, 3) := by decide +kernel
theorem dX1_pattern_34 : decode cX1_pattern 34 = .ok (.aload_n 0, 1) := by decide +kernel
theorem dX1_pattern_35 : decode cX1_pattern 35 = .ok (.getfield 16, 3) := by decide +kernel
theorem dX1_pattern_38 : decode cX1_pattern 38 = .ok (.ireturn, 1) := by decide +kernel
abbrev cX1_clearPattern : ByteArray := prog_3_method_3_code
def yX1_clearPattern : MethodName := ⟨RX1, "clearPattern", "()I"⟩
theorem dX1_clearPattern_0 : decode cX1_clearPattern 0 = .ok (.aload_n 0, 1) := by decide +kernel
theorem dX1_clearPattern_1 : decode cX1_clearPattern 1 = .ok (.getfield 16, 3) := by decide +kernel
theorem dX1_clearPattern_4 : decode cX1_clearPattern 4 = .ok (.istore_n 1, 1) := by decide +kernel
theorem dX1_clearPattern_5 : decode cX1_clearPattern 5 = .ok (.aload_n 0, 1) := by decide +kernel
theorem dX1_clearPattern_6 : decode cX1_clearPattern 6 = .ok (.iconst 0, 1) := by decide +kernel
theorem dX1_clearPattern_7 : decode cX1_clearPattern 7 = .ok (.putfield 16, 3) := by decide +kernel
theorem dX1_clearPattern_10 : decode cX1_clearPattern 10 = .ok (.iload_n 1, 1) := by decide +kernel
theorem dX1_clearPattern_11 : decode cX1_clearPattern 11 = .ok (.ireturn, 1) := by decide +kernel
abbrev cX1_take : ByteArray := prog_3_method_4_code
def yX1_take : MethodName := ⟨RX1, "take", "(II)I"⟩
theorem dX1_take_0 : decode cX1_take 0 = .ok (.iload_n 2, 1) := by decide +kernel
theorem dX1_take_1 : decode cX1_take 1 = .ok (.ifCond .lt 9, 3) := by decide +kernel
theorem dX1_take_4 : decode cX1_take 4 = .ok (.iload_n 2, 1) := by decide +kernel
theorem dX1_take_5 : decode cX1_take 5 = .ok (.bipush 10, 2) := by decide +kernel
theorem dX1_take_7 : decode cX1_take 7 = .ok (.if_icmp .le 5, 3) := by decide +kernel
theorem dX1_take_10 : decode cX1_take 10 = .ok (.iconst (-1), 1) := by decide +kernel
theorem dX1_take_11 : decode cX1_take 11 = .ok (.ireturn, 1) := by decide +kernel
theorem dX1_take_12 : decode cX1_take 12 = .ok (.iload_n 1, 1) := by decide +kernel
theorem dX1_take_13 : decode cX1_take 13 = .ok (.ifCond .lt 13, 3) := by decide +kernel
theorem dX1_take_16 : decode cX1_take 16 = .ok (.iload_n 1, 1) := by decide +kernel
theorem dX1_take_17 : decode cX1_take 17 = .ok (.aload_n 0, 1) := by decide +kernel
theorem dX1_take_18 : decode cX1_take 18 = .ok (.getfield 20, 3) := by decide +kernel
theorem dX1_take_21 : decode cX1_take 21 = .ok (.iload_n 2, 1) := by decide +kernel
theorem dX1_take_22 : decode cX1_take 22 = .ok (.isub, 1) := by decide +kernel
theorem dX1_take_23 : decode cX1_take 23 = .ok (.if_icmp .le 6, 3) := by decide +kernel
theorem dX1_take_26 : decode cX1_take 26 = .ok (.bipush (-2), 2) := by decide +kernel
theorem dX1_take_28 : decode cX1_take 28 = .ok (.ireturn, 1) := by decide +kernel
theorem dX1_take_29 : decode cX1_take 29 = .ok (.iconst 0, 1) := by decide +kernel
theorem dX1_take_30 : decode cX1_take 30 = .ok (.istore_n 3, 1) := by decide +kernel
theorem dX1_take_31 : decode cX1_take 31 = .ok (.iload_n 3, 1) := by decide +kernel
theorem dX1_take_32 : decode cX1_take 32 = .ok (.iload_n 2, 1) := by decide +kernel
theorem dX1_take_33 : decode cX1_take 33 = .ok (.if_icmp .ge 26, 3) := by decide +kernel
theorem dX1_take_36 : decode cX1_take 36 = .ok (.aload_n 0, 1) := by decide +kernel
theorem dX1_take_37 : decode cX1_take 37 = .ok (.getfield 7, 3) := by decide +kernel
theorem dX1_take_40 : decode cX1_take 40 = .ok (.bipush 60, 2) := by decide +kernel
theorem dX1_take_42 : decode cX1_take 42 = .ok (.iload_n 3, 1) := by decide +kernel
theorem dX1_take_43 : decode cX1_take 43 = .ok (.iadd, 1) := by decide +kernel
theorem dX1_take_44 : decode cX1_take 44 = .ok (.aload_n 0, 1) := by decide +kernel
theorem dX1_take_45 : decode cX1_take 45 = .ok (.getfield 7, 3) := by decide +kernel
theorem dX1_take_48 : decode cX1_take 48 = .ok (.iload_n 1, 1) := by decide +kernel
theorem dX1_take_49 : decode cX1_take 49 = .ok (.iload_n 3, 1) := by decide +kernel
theorem dX1_take_50 : decode cX1_take 50 = .ok (.iadd, 1) := by decide +kernel
theorem dX1_take_51 : decode cX1_take 51 = .ok (.iaload, 1) := by decide +kernel
theorem dX1_take_52 : decode cX1_take 52 = .ok (.iastore, 1) := by decide +kernel
theorem dX1_take_53 : decode cX1_take 53 = .ok (.iinc 3 1, 3) := by decide +kernel
theorem dX1_take_56 : decode cX1_take 56 = .ok (.goto (-25), 3) := by decide +kernel
theorem dX1_take_59 : decode cX1_take 59 = .ok (.aload_n 0, 1) := by decide +kernel
theorem dX1_take_60 : decode cX1_take 60 = .ok (.iload_n 2, 1) := by decide +kernel
theorem dX1_take_61 : decode cX1_take 61 = .ok (.putfield 16, 3) := by decide +kernel
theorem dX1_take_64 : decode cX1_take 64 = .ok (.iload_n 2, 1) := by decide +kernel
theorem dX1_take_65 : decode cX1_take 65 = .ok (.ireturn, 1) := by decide +kernel
abbrev cX1_feed : ByteArray := prog_3_method_5_code
def yX1_feed : MethodName := ⟨RX1, "feed", "(I)I"⟩
theorem dX1_feed_0 : decode cX1_feed 0 = .ok (.aload_n 0, 1) := by decide +kernel
theorem dX1_feed_1 : decode cX1_feed 1 = .ok (.getfield 20, 3) := by decide +kernel
theorem dX1_feed_4 : decode cX1_feed 4 = .ok (.bipush 60, 2) := by decide +kernel
theorem dX1_feed_6 : decode cX1_feed 6 = .ok (.if_icmp .lt 5, 3) := by decide +kernel
theorem dX1_feed_9 : decode cX1_feed 9 = .ok (.iconst (-1), 1) := by decide +kernel
theorem dX1_feed_10 : decode cX1_feed 10 = .ok (.ireturn, 1) := by decide +kernel
theorem dX1_feed_11 : decode cX1_feed 11 = .ok (.aload_n 0, 1) := by decide +kernel
theorem dX1_feed_12 : decode cX1_feed 12 = .ok (.getfield 7, 3) := by decide +kernel
theorem dX1_feed_15 : decode cX1_feed 15 = .ok (.aload_n 0, 1) := by decide +kernel
theorem dX1_feed_16 : decode cX1_feed 16 = .ok (.getfield 20, 3) := by decide +kernel
theorem dX1_feed_19 : decode cX1_feed 19 = .ok (.iload_n 1, 1) := by decide +kernel
theorem dX1_feed_20 : decode cX1_feed 20 = .ok (.iastore, 1) := by decide +kernel
theorem dX1_feed_21 : decode cX1_feed 21 = .ok (.aload_n 0, 1) := by decide +kernel
theorem dX1_feed_22 : decode cX1_feed 22 = .ok (.dup, 1) := by decide +kernel
theorem dX1_feed_23 : decode cX1_feed 23 = .ok (.getfield 20, 3) := by decide +kernel
theorem dX1_feed_26 : decode cX1_feed 26 = .ok (.iconst 1, 1) := by decide +kernel
theorem dX1_feed_27 : decode cX1_feed 27 = .ok (.iadd, 1) := by decide +kernel
theorem dX1_feed_28 : decode cX1_feed 28 = .ok (.putfield 20, 3) := by decide +kernel
theorem dX1_feed_31 : decode cX1_feed 31 = .ok (.aload_n 0, 1) := by decide +kernel
theorem dX1_feed_32 : decode cX1_feed 32 = .ok (.getfield 20, 3) := by decide +kernel
theorem dX1_feed_35 : decode cX1_feed 35 = .ok (.ireturn, 1) := by decide +kernel
abbrev cX1_ramp : ByteArray := prog_3_method_6_code
def yX1_ramp : MethodName := ⟨RX1, "ramp", "(III)I"⟩
theorem dX1_ramp_0 : decode cX1_ramp 0 = .ok (.iload_n 3, 1) := by decide +kernel
theorem dX1_ramp_1 : decode cX1_ramp 1 = .ok (.iconst 1, 1) := by decide +kernel
theorem dX1_ramp_2 : decode cX1_ramp 2 = .ok (.if_icmp .lt 9, 3) := by decide +kernel
theorem dX1_ramp_5 : decode cX1_ramp 5 = .ok (.iload_n 3, 1) := by decide +kernel
theorem dX1_ramp_6 : decode cX1_ramp 6 = .ok (.bipush 60, 2) := by decide +kernel
theorem dX1_ramp_8 : decode cX1_ramp 8 = .ok (.if_icmp .le 5, 3) := by decide +kernel
theorem dX1_ramp_11 : decode cX1_ramp 11 = .ok (.iconst (-1), 1) := by decide +kernel
theorem dX1_ramp_12 : decode cX1_ramp 12 = .ok (.ireturn, 1) := by decide +kernel
theorem dX1_ramp_13 : decode cX1_ramp 13 = .ok (.aload_n 0, 1) := by decide +kernel
theorem dX1_ramp_14 : decode cX1_ramp 14 = .ok (.getfield 20, 3) := by decide +kernel
theorem dX1_ramp_17 : decode cX1_ramp 17 = .ok (.iload_n 3, 1) := by decide +kernel
theorem dX1_ramp_18 : decode cX1_ramp 18 = .ok (.iadd, 1) := by decide +kernel
theorem dX1_ramp_19 : decode cX1_ramp 19 = .ok (.bipush 60, 2) := by decide +kernel
theorem dX1_ramp_21 : decode cX1_ramp 21 = .ok (.if_icmp .le 6, 3) := by decide +kernel
theorem dX1_ramp_24 : decode cX1_ramp 24 = .ok (.bipush (-2), 2) := by decide +kernel
theorem dX1_ramp_26 : decode cX1_ramp 26 = .ok (.ireturn, 1) := by decide +kernel
theorem dX1_ramp_27 : decode cX1_ramp 27 = .ok (.iconst 0, 1) := by decide +kernel
theorem dX1_ramp_28 : decode cX1_ramp 28 = .ok (.istore 4, 2) := by decide +kernel
theorem dX1_ramp_30 : decode cX1_ramp 30 = .ok (.iload 4, 2) := by decide +kernel
theorem dX1_ramp_32 : decode cX1_ramp 32 = .ok (.iload_n 3, 1) := by decide +kernel
theorem dX1_ramp_33 : decode cX1_ramp 33 = .ok (.if_icmp .ge 27, 3) := by decide +kernel
theorem dX1_ramp_36 : decode cX1_ramp 36 = .ok (.aload_n 0, 1) := by decide +kernel
theorem dX1_ramp_37 : decode cX1_ramp 37 = .ok (.getfield 7, 3) := by decide +kernel
theorem dX1_ramp_40 : decode cX1_ramp 40 = .ok (.aload_n 0, 1) := by decide +kernel
theorem dX1_ramp_41 : decode cX1_ramp 41 = .ok (.getfield 20, 3) := by decide +kernel
theorem dX1_ramp_44 : decode cX1_ramp 44 = .ok (.iload 4, 2) := by decide +kernel
theorem dX1_ramp_46 : decode cX1_ramp 46 = .ok (.iadd, 1) := by decide +kernel
theorem dX1_ramp_47 : decode cX1_ramp 47 = .ok (.iload_n 1, 1) := by decide +kernel
theorem dX1_ramp_48 : decode cX1_ramp 48 = .ok (.iload 4, 2) := by decide +kernel
theorem dX1_ramp_50 : decode cX1_ramp 50 = .ok (.iload_n 2, 1) := by decide +kernel
theorem dX1_ramp_51 : decode cX1_ramp 51 = .ok (.imul, 1) := by decide +kernel
theorem dX1_ramp_52 : decode cX1_ramp 52 = .ok (.iadd, 1) := by decide +kernel
theorem dX1_ramp_53 : decode cX1_ramp 53 = .ok (.iastore, 1) := by decide +kernel
theorem dX1_ramp_54 : decode cX1_ramp 54 = .ok (.iinc 4 1, 3) := by decide +kernel
theorem dX1_ramp_57 : decode cX1_ramp 57 = .ok (.goto (-27), 3) := by decide +kernel
theorem dX1_ramp_60 : decode cX1_ramp 60 = .ok (.aload_n 0, 1) := by decide +kernel
theorem dX1_ramp_61 : decode cX1_ramp 61 = .ok (.dup, 1) := by decide +kernel
theorem dX1_ramp_62 : decode cX1_ramp 62 = .ok (.getfield 20, 3) := by decide +kernel
theorem dX1_ramp_65 : decode cX1_ramp 65 = .ok (.iload_n 3, 1) := by decide +kernel
theorem dX1_ramp_66 : decode cX1_ramp 66 = .ok (.iadd, 1) := by decide +kernel
theorem dX1_ramp_67 : decode cX1_ramp 67 = .ok (.putfield 20, 3) := by decide +kernel
theorem dX1_ramp_70 : decode cX1_ramp 70 = .ok (.aload_n 0, 1) := by decide +kernel
theorem dX1_ramp_71 : decode cX1_ramp 71 = .ok (.getfield 20, 3) := by decide +kernel
theorem dX1_ramp_74 : decode cX1_ramp 74 = .ok (.ireturn, 1) := by decide +kernel
abbrev cX1_echo : ByteArray := prog_3_method_7_code
def yX1_echo : MethodName := ⟨RX1, "echo", "(III)I"⟩
theorem dX1_echo_0 : decode cX1_echo 0 = .ok (.iload_n 1, 1) := by decide +kernel
theorem dX1_echo_1 : decode cX1_echo 1 = .ok (.ifCond .ge 5, 3) := by decide +kernel
theorem dX1_echo_4 : decode cX1_echo 4 = .ok (.iconst (-1), 1) := by decide +kernel
theorem dX1_echo_5 : decode cX1_echo 5 = .ok (.ireturn, 1) := by decide +kernel
theorem dX1_echo_6 : decode cX1_echo 6 = .ok (.iload_n 1, 1) := by decide +kernel
theorem dX1_echo_7 : decode cX1_echo 7 = .ok (.bipush 64, 2) := by decide +kernel
theorem dX1_echo_9 : decode cX1_echo 9 = .ok (.idiv, 1) := by decide +kernel
theorem dX1_echo_10 : decode cX1_echo 10 = .ok (.istore 4, 2) := by decide +kernel
theorem dX1_echo_12 : decode cX1_echo 12 = .ok (.iload_n 1, 1) := by decide +kernel
theorem dX1_echo_13 : decode cX1_echo 13 = .ok (.bipush 64, 2) := by decide +kernel
theorem dX1_echo_15 : decode cX1_echo 15 = .ok (.irem, 1) := by decide +kernel
theorem dX1_echo_16 : decode cX1_echo 16 = .ok (.istore 5, 2) := by decide +kernel
theorem dX1_echo_18 : decode cX1_echo 18 = .ok (.iload 4, 2) := by decide +kernel
theorem dX1_echo_20 : decode cX1_echo 20 = .ok (.iconst 1, 1) := by decide +kernel
theorem dX1_echo_21 : decode cX1_echo 21 = .ok (.if_icmp .lt 10, 3) := by decide +kernel
theorem dX1_echo_24 : decode cX1_echo 24 = .ok (.iload 4, 2) := by decide +kernel
theorem dX1_echo_26 : decode cX1_echo 26 = .ok (.bipush 20, 2) := by decide +kernel
theorem dX1_echo_28 : decode cX1_echo 28 = .ok (.if_icmp .le 5, 3) := by decide +kernel
theorem dX1_echo_31 : decode cX1_echo 31 = .ok (.iconst (-1), 1) := by decide +kernel
theorem dX1_echo_32 : decode cX1_echo 32 = .ok (.ireturn, 1) := by decide +kernel
theorem dX1_echo_33 : decode cX1_echo 33 = .ok (.iload 5, 2) := by decide +kernel
theorem dX1_echo_35 : decode cX1_echo 35 = .ok (.aload_n 0, 1) := by decide +kernel
theorem dX1_echo_36 : decode cX1_echo 36 = .ok (.getfield 20, 3) := by decide +kernel
theorem dX1_echo_39 : decode cX1_echo 39 = .ok (.iload 4, 2) := by decide +kernel
theorem dX1_echo_41 : decode cX1_echo 41 = .ok (.isub, 1) := by decide +kernel
theorem dX1_echo_42 : decode cX1_echo 42 = .ok (.if_icmp .le 6, 3) := by decide +kernel
theorem dX1_echo_45 : decode cX1_echo 45 = .ok (.bipush (-2), 2) := by decide +kernel
theorem dX1_echo_47 : decode cX1_echo 47 = .ok (.ireturn, 1) := by decide +kernel
theorem dX1_echo_48 : decode cX1_echo 48 = .ok (.aload_n 0, 1) := by decide +kernel
theorem dX1_echo_49 : decode cX1_echo 49 = .ok (.getfield 20, 3) := by decide +kernel
theorem dX1_echo_52 : decode cX1_echo 52 = .ok (.iload 4, 2) := by decide +kernel
theorem dX1_echo_54 : decode cX1_echo 54 = .ok (.iadd, 1) := by decide +kernel
theorem dX1_echo_55 : decode cX1_echo 55 = .ok (.bipush 60, 2) := by decide +kernel
theorem dX1_echo_57 : decode cX1_echo 57 = .ok (.if_icmp .le 6, 3) := by decide +kernel
theorem dX1_echo_60 : decode cX1_echo 60 = .ok (.bipush (-3), 2) := by decide +kernel
theorem dX1_echo_62 : decode cX1_echo 62 = .ok (.ireturn, 1) := by decide +kernel
theorem dX1_echo_63 : decode cX1_echo 63 = .ok (.iconst 0, 1) := by decide +kernel
theorem dX1_echo_64 : decode cX1_echo 64 = .ok (.istore 6, 2) := by decide +kernel
theorem dX1_echo_66 : decode cX1_echo 66 = .ok (.iload 6, 2) := by decide +kernel
theorem dX1_echo_68 : decode cX1_echo 68 = .ok (.iload 4, 2) := by decide +kernel
theorem dX1_echo_70 : decode cX1_echo 70 = .ok (.if_icmp .ge 35, 3) := by decide +kernel
theorem dX1_echo_73 : decode cX1_echo 73 = .ok (.aload_n 0, 1) := by decide +kernel
theorem dX1_echo_74 : decode cX1_echo 74 = .ok (.getfield 7, 3) := by decide +kernel
theorem dX1_echo_77 : decode cX1_echo 77 = .ok (.aload_n 0, 1) := by decide +kernel
theorem dX1_echo_78 : decode cX1_echo 78 = .ok (.getfield 20, 3) := by decide +kernel
theorem dX1_echo_81 : decode cX1_echo 81 = .ok (.iload 6, 2) := by decide +kernel
theorem dX1_echo_83 : decode cX1_echo 83 = .ok (.iadd, 1) := by decide +kernel
theorem dX1_echo_84 : decode cX1_echo 84 = .ok (.aload_n 0, 1) := by decide +kernel
theorem dX1_echo_85 : decode cX1_echo 85 = .ok (.getfield 7, 3) := by decide +kernel
theorem dX1_echo_88 : decode cX1_echo 88 = .ok (.iload 5, 2) := by decide +kernel
theorem dX1_echo_90 : decode cX1_echo 90 = .ok (.iload 6, 2) := by decide +kernel
theorem dX1_echo_92 : decode cX1_echo 92 = .ok (.iadd, 1) := by decide +kernel
theorem dX1_echo_93 : decode cX1_echo 93 = .ok (.iaload, 1) := by decide +kernel
theorem dX1_echo_94 : decode cX1_echo 94 = .ok (.iload_n 2, 1) := by decide +kernel
theorem dX1_echo_95 : decode cX1_echo 95 = .ok (.imul, 1) := by decide +kernel
theorem dX1_echo_96 : decode cX1_echo 96 = .ok (.iload_n 3, 1) := by decide +kernel
theorem dX1_echo_97 : decode cX1_echo 97 = .ok (.iadd, 1) := by decide +kernel
theorem dX1_echo_98 : decode cX1_echo 98 = .ok (.iastore, 1) := by decide +kernel
theorem dX1_echo_99 : decode cX1_echo 99 = .ok (.iinc 6 1, 3) := by decide +kernel
theorem dX1_echo_102 : decode cX1_echo 102 = .ok (.goto (-36), 3) := by decide +kernel
theorem dX1_echo_105 : decode cX1_echo 105 = .ok (.aload_n 0, 1) := by decide +kernel
theorem dX1_echo_106 : decode cX1_echo 106 = .ok (.dup, 1) := by decide +kernel
theorem dX1_echo_107 : decode cX1_echo 107 = .ok (.getfield 20, 3) := by decide +kernel
theorem dX1_echo_110 : decode cX1_echo 110 = .ok (.iload 4, 2) := by decide +kernel
theorem dX1_echo_112 : decode cX1_echo 112 = .ok (.iadd, 1) := by decide +kernel
theorem dX1_echo_113 : decode cX1_echo 113 = .ok (.putfield 20, 3) := by decide +kernel
theorem dX1_echo_116 : decode cX1_echo 116 = .ok (.aload_n 0, 1) := by decide +kernel
theorem dX1_echo_117 : decode cX1_echo 117 = .ok (.getfield 20, 3) := by decide +kernel
theorem dX1_echo_120 : decode cX1_echo 120 = .ok (.ireturn, 1) := by decide +kernel
abbrev cX1_undo : ByteArray := prog_3_method_8_code
def yX1_undo : MethodName := ⟨RX1, "undo", "(I)I"⟩
theorem dX1_undo_0 : decode cX1_undo 0 = .ok (.iload_n 1, 1) := by decide +kernel
theorem dX1_undo_1 : decode cX1_undo 1 = .ok (.ifCond .lt 11, 3) := by decide +kernel
theorem dX1_undo_4 : decode cX1_undo 4 = .ok (.iload_n 1, 1) := by decide +kernel
theorem dX1_undo_5 : decode cX1_undo 5 = .ok (.aload_n 0, 1) := by decide +kernel
theorem dX1_undo_6 : decode cX1_undo 6 = .ok (.getfield 20, 3) := by decide +kernel
theorem dX1_undo_9 : decode cX1_undo 9 = .ok (.if_icmp .le 5, 3) := by decide +kernel
theorem dX1_undo_12 : decode cX1_undo 12 = .ok (.iconst (-1), 1) := by decide +kernel
theorem dX1_undo_13 : decode cX1_undo 13 = .ok (.ireturn, 1) := by decide +kernel
theorem dX1_undo_14 : decode cX1_undo 14 = .ok (.aload_n 0, 1) := by decide +kernel
theorem dX1_undo_15 : decode cX1_undo 15 = .ok (.dup, 1) := by decide +kernel
theorem dX1_undo_16 : decode cX1_undo 16 = .ok (.getfield 20, 3) := by decide +kernel
theorem dX1_undo_19 : decode cX1_undo 19 = .ok (.iload_n 1, 1) := by decide +kernel
theorem dX1_undo_20 : decode cX1_undo 20 = .ok (.isub, 1) := by decide +kernel
theorem dX1_undo_21 : decode cX1_undo 21 = .ok (.putfield 20, 3) := by decide +kernel
theorem dX1_undo_24 : decode cX1_undo 24 = .ok (.aload_n 0, 1) := by decide +kernel
theorem dX1_undo_25 : decode cX1_undo 25 = .ok (.getfield 20, 3) := by decide +kernel
theorem dX1_undo_28 : decode cX1_undo 28 = .ok (.ireturn, 1) := by decide +kernel
abbrev cX1_length : ByteArray := prog_3_method_9_code
def yX1_length : MethodName := ⟨RX1, "length", "()I"⟩
theorem dX1_length_0 : decode cX1_length 0 = .ok (.aload_n 0, 1) := by decide +kernel
theorem dX1_length_1 : decode cX1_length 1 = .ok (.getfield 20, 3) := by decide +kernel
theorem dX1_length_4 : decode cX1_length 4 = .ok (.ireturn, 1) := by decide +kernel
abbrev cX1_patternLength : ByteArray := prog_3_method_10_code
def yX1_patternLength : MethodName := ⟨RX1, "patternLength", "()I"⟩
theorem dX1_patternLength_0 : decode cX1_patternLength 0 = .ok (.aload_n 0, 1) := by decide +kernel
theorem dX1_patternLength_1 : decode cX1_patternLength 1 = .ok (.getfield 16, 3) := by decide +kernel
theorem dX1_patternLength_4 : decode cX1_patternLength 4 = .ok (.ireturn, 1) := by decide +kernel
abbrev cX1_valueAt : ByteArray := prog_3_method_11_code
def yX1_valueAt : MethodName := ⟨RX1, "valueAt", "(I)I"⟩
theorem dX1_valueAt_0 : decode cX1_valueAt 0 = .ok (.iload_n 1, 1) := by decide +kernel
theorem dX1_valueAt_1 : decode cX1_valueAt 1 = .ok (.ifCond .lt 11, 3) := by decide +kernel
theorem dX1_valueAt_4 : decode cX1_valueAt 4 = .ok (.iload_n 1, 1) := by decide +kernel
theorem dX1_valueAt_5 : decode cX1_valueAt 5 = .ok (.aload_n 0, 1) := by decide +kernel
theorem dX1_valueAt_6 : decode cX1_valueAt 6 = .ok (.getfield 20, 3) := by decide +kernel
theorem dX1_valueAt_9 : decode cX1_valueAt 9 = .ok (.if_icmp .lt 7, 3) := by decide +kernel
theorem dX1_valueAt_12 : decode cX1_valueAt 12 = .ok (.iconst 0, 1) := by decide +kernel
theorem dX1_valueAt_13 : decode cX1_valueAt 13 = .ok (.goto 9, 3) := by decide +kernel
theorem dX1_valueAt_16 : decode cX1_valueAt 16 = .ok (.aload_n 0, 1) := by decide +kernel
theorem dX1_valueAt_17 : decode cX1_valueAt 17 = .ok (.getfield 7, 3) := by decide +kernel
theorem dX1_valueAt_20 : decode cX1_valueAt 20 = .ok (.iload_n 1, 1) := by decide +kernel
theorem dX1_valueAt_21 : decode cX1_valueAt 21 = .ok (.iaload, 1) := by decide +kernel
theorem dX1_valueAt_22 : decode cX1_valueAt 22 = .ok (.ireturn, 1) := by decide +kernel
abbrev cX1_occurrences : ByteArray := prog_3_method_15_code
def yX1_occurrences : MethodName := ⟨RX1, "occurrences", "()I"⟩
theorem dX1_occurrences_0 : decode cX1_occurrences 0 = .ok (.iconst 0, 1) := by decide +kernel
theorem dX1_occurrences_1 : decode cX1_occurrences 1 = .ok (.istore_n 1, 1) := by decide +kernel
theorem dX1_occurrences_2 : decode cX1_occurrences 2 = .ok (.iconst 0, 1) := by decide +kernel
theorem dX1_occurrences_3 : decode cX1_occurrences 3 = .ok (.istore_n 2, 1) := by decide +kernel
theorem dX1_occurrences_4 : decode cX1_occurrences 4 = .ok (.iload_n 2, 1) := by decide +kernel
theorem dX1_occurrences_5 : decode cX1_occurrences 5 = .ok (.aload_n 0, 1) := by decide +kernel
theorem dX1_occurrences_6 : decode cX1_occurrences 6 = .ok (.getfield 20, 3) := by decide +kernel
theorem dX1_occurrences_9 : decode cX1_occurrences 9 = .ok (.if_icmp .ge 20, 3) := by decide +kernel
theorem dX1_occurrences_12 : decode cX1_occurrences 12 = .ok (.aload_n 0, 1) := by decide +kernel
theorem dX1_occurrences_13 : decode cX1_occurrences 13 = .ok (.iload_n 2, 1) := by decide +kernel
theorem dX1_occurrences_14 : decode cX1_occurrences 14 = .ok (.invokevirtual 31, 3) := by decide +kernel
theorem dX1_occurrences_17 : decode cX1_occurrences 17 = .ok (.ifCond .eq 6, 3) := by decide +kernel
theorem dX1_occurrences_20 : decode cX1_occurrences 20 = .ok (.iinc 1 1, 3) := by decide +kernel
theorem dX1_occurrences_23 : decode cX1_occurrences 23 = .ok (.iinc 2 1, 3) := by decide +kernel
theorem dX1_occurrences_26 : decode cX1_occurrences 26 = .ok (.goto (-22), 3) := by decide +kernel
theorem dX1_occurrences_29 : decode cX1_occurrences 29 = .ok (.iload_n 1, 1) := by decide +kernel
theorem dX1_occurrences_30 : decode cX1_occurrences 30 = .ok (.ireturn, 1) := by decide +kernel
abbrev cX1_occurs : ByteArray := prog_3_method_14_code
def yX1_occurs : MethodName := ⟨RX1, "occurs", "(I)Z"⟩
theorem dX1_occurs_0 : decode cX1_occurs 0 = .ok (.aload_n 0, 1) := by decide +kernel
theorem dX1_occurs_1 : decode cX1_occurs 1 = .ok (.getfield 16, 3) := by decide +kernel
theorem dX1_occurs_4 : decode cX1_occurs 4 = .ok (.ifCond .eq 20, 3) := by decide +kernel
theorem dX1_occurs_7 : decode cX1_occurs 7 = .ok (.iload_n 1, 1) := by decide +kernel
theorem dX1_occurs_8 : decode cX1_occurs 8 = .ok (.ifCond .lt 16, 3) := by decide +kernel
theorem dX1_occurs_11 : decode cX1_occurs 11 = .ok (.iload_n 1, 1) := by decide +kernel
theorem dX1_occurs_12 : decode cX1_occurs 12 = .ok (.aload_n 0, 1) := by decide +kernel
theorem dX1_occurs_13 : decode cX1_occurs 13 = .ok (.getfield 20, 3) := by decide +kernel
theorem dX1_occurs_16 : decode cX1_occurs 16 = .ok (.aload_n 0, 1) := by decide +kernel
theorem dX1_occurs_17 : decode cX1_occurs 17 = .ok (.getfield 16, 3) := by decide +kernel
theorem dX1_occurs_20 : decode cX1_occurs 20 = .ok (.isub, 1) := by decide +kernel
theorem dX1_occurs_21 : decode cX1_occurs 21 = .ok (.if_icmp .le 5, 3) := by decide +kernel
theorem dX1_occurs_24 : decode cX1_occurs 24 = .ok (.iconst 0, 1) := by decide +kernel
theorem dX1_occurs_25 : decode cX1_occurs 25 = .ok (.ireturn, 1) := by decide +kernel
theorem dX1_occurs_26 : decode cX1_occurs 26 = .ok (.aload_n 0, 1) := by decide +kernel
theorem dX1_occurs_27 : decode cX1_occurs 27 = .ok (.iload_n 1, 1) := by decide +kernel
theorem dX1_occurs_28 : decode cX1_occurs 28 = .ok (.bipush 60, 2) := by decide +kernel
theorem dX1_occurs_30 : decode cX1_occurs 30 = .ok (.aload_n 0, 1) := by decide +kernel
theorem dX1_occurs_31 : decode cX1_occurs 31 = .ok (.getfield 16, 3) := by decide +kernel
theorem dX1_occurs_34 : decode cX1_occurs 34 = .ok (.invokevirtual 27, 3) := by decide +kernel
theorem dX1_occurs_37 : decode cX1_occurs 37 = .ok (.ireturn, 1) := by decide +kernel
abbrev cX1_alike : ByteArray := prog_3_method_13_code
def yX1_alike : MethodName := ⟨RX1, "alike", "(III)Z"⟩
theorem dX1_alike_0 : decode cX1_alike 0 = .ok (.iconst 0, 1) := by decide +kernel
theorem dX1_alike_1 : decode cX1_alike 1 = .ok (.istore 4, 2) := by decide +kernel
theorem dX1_alike_3 : decode cX1_alike 3 = .ok (.iload 4, 2) := by decide +kernel
theorem dX1_alike_5 : decode cX1_alike 5 = .ok (.iload_n 3, 1) := by decide +kernel
theorem dX1_alike_6 : decode cX1_alike 6 = .ok (.if_icmp .ge 54, 3) := by decide +kernel
theorem dX1_alike_9 : decode cX1_alike 9 = .ok (.iconst 0, 1) := by decide +kernel
theorem dX1_alike_10 : decode cX1_alike 10 = .ok (.istore 5, 2) := by decide +kernel
theorem dX1_alike_12 : decode cX1_alike 12 = .ok (.iload 5, 2) := by decide +kernel
theorem dX1_alike_14 : decode cX1_alike 14 = .ok (.iload 4, 2) := by decide +kernel
theorem dX1_alike_16 : decode cX1_alike 16 = .ok (.if_icmp .ge 38, 3) := by decide +kernel
theorem dX1_alike_19 : decode cX1_alike 19 = .ok (.aload_n 0, 1) := by decide +kernel
theorem dX1_alike_20 : decode cX1_alike 20 = .ok (.iload_n 1, 1) := by decide +kernel
theorem dX1_alike_21 : decode cX1_alike 21 = .ok (.iload 4, 2) := by decide +kernel
theorem dX1_alike_23 : decode cX1_alike 23 = .ok (.iadd, 1) := by decide +kernel
theorem dX1_alike_24 : decode cX1_alike 24 = .ok (.iload_n 1, 1) := by decide +kernel
theorem dX1_alike_25 : decode cX1_alike 25 = .ok (.iload 5, 2) := by decide +kernel
theorem dX1_alike_27 : decode cX1_alike 27 = .ok (.iadd, 1) := by decide +kernel
theorem dX1_alike_28 : decode cX1_alike 28 = .ok (.invokevirtual 23, 3) := by decide +kernel
theorem dX1_alike_31 : decode cX1_alike 31 = .ok (.aload_n 0, 1) := by decide +kernel
theorem dX1_alike_32 : decode cX1_alike 32 = .ok (.iload_n 2, 1) := by decide +kernel
theorem dX1_alike_33 : decode cX1_alike 33 = .ok (.iload 4, 2) := by decide +kernel
theorem dX1_alike_35 : decode cX1_alike 35 = .ok (.iadd, 1) := by decide +kernel
theorem dX1_alike_36 : decode cX1_alike 36 = .ok (.iload_n 2, 1) := by decide +kernel
theorem dX1_alike_37 : decode cX1_alike 37 = .ok (.iload 5, 2) := by decide +kernel
theorem dX1_alike_39 : decode cX1_alike 39 = .ok (.iadd, 1) := by decide +kernel
theorem dX1_alike_40 : decode cX1_alike 40 = .ok (.invokevirtual 23, 3) := by decide +kernel
theorem dX1_alike_43 : decode cX1_alike 43 = .ok (.if_icmp .eq 5, 3) := by decide +kernel
theorem dX1_alike_46 : decode cX1_alike 46 = .ok (.iconst 0, 1) := by decide +kernel
theorem dX1_alike_47 : decode cX1_alike 47 = .ok (.ireturn, 1) := by decide +kernel
theorem dX1_alike_48 : decode cX1_alike 48 = .ok (.iinc 5 1, 3) := by decide +kernel
theorem dX1_alike_51 : decode cX1_alike 51 = .ok (.goto (-39), 3) := by decide +kernel
theorem dX1_alike_54 : decode cX1_alike 54 = .ok (.iinc 4 1, 3) := by decide +kernel
theorem dX1_alike_57 : decode cX1_alike 57 = .ok (.goto (-54), 3) := by decide +kernel
theorem dX1_alike_60 : decode cX1_alike 60 = .ok (.iconst 1, 1) := by decide +kernel
theorem dX1_alike_61 : decode cX1_alike 61 = .ok (.ireturn, 1) := by decide +kernel
abbrev cX1_order : ByteArray := prog_3_method_12_code
def yX1_order : MethodName := ⟨RX1, "order", "(II)I"⟩
theorem dX1_order_0 : decode cX1_order 0 = .ok (.aload_n 0, 1) := by decide +kernel
theorem dX1_order_1 : decode cX1_order 1 = .ok (.getfield 7, 3) := by decide +kernel
theorem dX1_order_4 : decode cX1_order 4 = .ok (.iload_n 1, 1) := by decide +kernel
theorem dX1_order_5 : decode cX1_order 5 = .ok (.iaload, 1) := by decide +kernel
theorem dX1_order_6 : decode cX1_order 6 = .ok (.aload_n 0, 1) := by decide +kernel
theorem dX1_order_7 : decode cX1_order 7 = .ok (.getfield 7, 3) := by decide +kernel
theorem dX1_order_10 : decode cX1_order 10 = .ok (.iload_n 2, 1) := by decide +kernel
theorem dX1_order_11 : decode cX1_order 11 = .ok (.iaload, 1) := by decide +kernel
theorem dX1_order_12 : decode cX1_order 12 = .ok (.if_icmp .ge 7, 3) := by decide +kernel
theorem dX1_order_15 : decode cX1_order 15 = .ok (.iconst (-1), 1) := by decide +kernel
theorem dX1_order_16 : decode cX1_order 16 = .ok (.goto 23, 3) := by decide +kernel
theorem dX1_order_19 : decode cX1_order 19 = .ok (.aload_n 0, 1) := by decide +kernel
theorem dX1_order_20 : decode cX1_order 20 = .ok (.getfield 7, 3) := by decide +kernel
theorem dX1_order_23 : decode cX1_order 23 = .ok (.iload_n 1, 1) := by decide +kernel
theorem dX1_order_24 : decode cX1_order 24 = .ok (.iaload, 1) := by decide +kernel
theorem dX1_order_25 : decode cX1_order 25 = .ok (.aload_n 0, 1) := by decide +kernel
theorem dX1_order_26 : decode cX1_order 26 = .ok (.getfield 7, 3) := by decide +kernel
theorem dX1_order_29 : decode cX1_order 29 = .ok (.iload_n 2, 1) := by decide +kernel
theorem dX1_order_30 : decode cX1_order 30 = .ok (.iaload, 1) := by decide +kernel
theorem dX1_order_31 : decode cX1_order 31 = .ok (.if_icmp .le 7, 3) := by decide +kernel
theorem dX1_order_34 : decode cX1_order 34 = .ok (.iconst 1, 1) := by decide +kernel
theorem dX1_order_35 : decode cX1_order 35 = .ok (.goto 4, 3) := by decide +kernel
theorem dX1_order_38 : decode cX1_order 38 = .ok (.iconst 0, 1) := by decide +kernel
theorem dX1_order_39 : decode cX1_order 39 = .ok (.ireturn, 1) := by decide +kernel
abbrev cX1_occurrence : ByteArray := prog_3_method_16_code
def yX1_occurrence : MethodName := ⟨RX1, "occurrence", "(I)I"⟩
theorem dX1_occurrence_0 : decode cX1_occurrence 0 = .ok (.iconst 0, 1) := by decide +kernel
theorem dX1_occurrence_1 : decode cX1_occurrence 1 = .ok (.istore_n 2, 1) := by decide +kernel
theorem dX1_occurrence_2 : decode cX1_occurrence 2 = .ok (.iconst 0, 1) := by decide +kernel
theorem dX1_occurrence_3 : decode cX1_occurrence 3 = .ok (.istore_n 3, 1) := by decide +kernel
theorem dX1_occurrence_4 : decode cX1_occurrence 4 = .ok (.iload_n 3, 1) := by decide +kernel
theorem dX1_occurrence_5 : decode cX1_occurrence 5 = .ok (.aload_n 0, 1) := by decide +kernel
theorem dX1_occurrence_6 : decode cX1_occurrence 6 = .ok (.getfield 20, 3) := by decide +kernel
theorem dX1_occurrence_9 : decode cX1_occurrence 9 = .ok (.if_icmp .ge 27, 3) := by decide +kernel
theorem dX1_occurrence_12 : decode cX1_occurrence 12 = .ok (.aload_n 0, 1) := by decide +kernel
theorem dX1_occurrence_13 : decode cX1_occurrence 13 = .ok (.iload_n 3, 1) := by decide +kernel
theorem dX1_occurrence_14 : decode cX1_occurrence 14 = .ok (.invokevirtual 31, 3) := by decide +kernel
theorem dX1_occurrence_17 : decode cX1_occurrence 17 = .ok (.ifCond .eq 13, 3) := by decide +kernel
theorem dX1_occurrence_20 : decode cX1_occurrence 20 = .ok (.iload_n 2, 1) := by decide +kernel
theorem dX1_occurrence_21 : decode cX1_occurrence 21 = .ok (.iload_n 1, 1) := by decide +kernel
theorem dX1_occurrence_22 : decode cX1_occurrence 22 = .ok (.if_icmp .ne 5, 3) := by decide +kernel
theorem dX1_occurrence_25 : decode cX1_occurrence 25 = .ok (.iload_n 3, 1) := by decide +kernel
theorem dX1_occurrence_26 : decode cX1_occurrence 26 = .ok (.ireturn, 1) := by decide +kernel
theorem dX1_occurrence_27 : decode cX1_occurrence 27 = .ok (.iinc 2 1, 3) := by decide +kernel
theorem dX1_occurrence_30 : decode cX1_occurrence 30 = .ok (.iinc 3 1, 3) := by decide +kernel
theorem dX1_occurrence_33 : decode cX1_occurrence 33 = .ok (.goto (-29), 3) := by decide +kernel
theorem dX1_occurrence_36 : decode cX1_occurrence 36 = .ok (.iconst (-1), 1) := by decide +kernel
theorem dX1_occurrence_37 : decode cX1_occurrence 37 = .ok (.ireturn, 1) := by decide +kernel
abbrev cX1_occursAt : ByteArray := prog_3_method_17_code
def yX1_occursAt : MethodName := ⟨RX1, "occursAt", "(I)I"⟩
theorem dX1_occursAt_0 : decode cX1_occursAt 0 = .ok (.aload_n 0, 1) := by decide +kernel
theorem dX1_occursAt_1 : decode cX1_occursAt 1 = .ok (.iload_n 1, 1) := by decide +kernel
theorem dX1_occursAt_2 : decode cX1_occursAt 2 = .ok (.invokevirtual 31, 3) := by decide +kernel
theorem dX1_occursAt_5 : decode cX1_occursAt 5 = .ok (.ifCond .eq 7, 3) := by decide +kernel
theorem dX1_occursAt_8 : decode cX1_occursAt 8 = .ok (.iconst 1, 1) := by decide +kernel
theorem dX1_occursAt_9 : decode cX1_occursAt 9 = .ok (.goto 4, 3) := by decide +kernel
theorem dX1_occursAt_12 : decode cX1_occursAt 12 = .ok (.iconst 0, 1) := by decide +kernel
theorem dX1_occursAt_13 : decode cX1_occursAt 13 = .ok (.ireturn, 1) := by decide +kernel
abbrev cX1_nextFrom : ByteArray := prog_3_method_18_code
def yX1_nextFrom : MethodName := ⟨RX1, "nextFrom", "(I)I"⟩
theorem dX1_nextFrom_0 : decode cX1_nextFrom 0 = .ok (.iconst 0, 1) := by decide +kernel
theorem dX1_nextFrom_1 : decode cX1_nextFrom 1 = .ok (.istore_n 2, 1) := by decide +kernel
theorem dX1_nextFrom_2 : decode cX1_nextFrom 2 = .ok (.iload_n 2, 1) := by decide +kernel
theorem dX1_nextFrom_3 : decode cX1_nextFrom 3 = .ok (.aload_n 0, 1) := by decide +kernel
theorem dX1_nextFrom_4 : decode cX1_nextFrom 4 = .ok (.getfield 20, 3) := by decide +kernel
theorem dX1_nextFrom_7 : decode cX1_nextFrom 7 = .ok (.if_icmp .ge 24, 3) := by decide +kernel
theorem dX1_nextFrom_10 : decode cX1_nextFrom 10 = .ok (.iload_n 2, 1) := by decide +kernel
theorem dX1_nextFrom_11 : decode cX1_nextFrom 11 = .ok (.iload_n 1, 1) := by decide +kernel
theorem dX1_nextFrom_12 : decode cX1_nextFrom 12 = .ok (.if_icmp .lt 13, 3) := by decide +kernel
theorem dX1_nextFrom_15 : decode cX1_nextFrom 15 = .ok (.aload_n 0, 1) := by decide +kernel
theorem dX1_nextFrom_16 : decode cX1_nextFrom 16 = .ok (.iload_n 2, 1) := by decide +kernel
theorem dX1_nextFrom_17 : decode cX1_nextFrom 17 = .ok (.invokevirtual 31, 3) := by decide +kernel
theorem dX1_nextFrom_20 : decode cX1_nextFrom 20 = .ok (.ifCond .eq 5, 3) := by decide +kernel
theorem dX1_nextFrom_23 : decode cX1_nextFrom 23 = .ok (.iload_n 2, 1) := by decide +kernel
theorem dX1_nextFrom_24 : decode cX1_nextFrom 24 = .ok (.ireturn, 1) := by decide +kernel
theorem dX1_nextFrom_25 : decode cX1_nextFrom 25 = .ok (.iinc 2 1, 3) := by decide +kernel
theorem dX1_nextFrom_28 : decode cX1_nextFrom 28 = .ok (.goto (-26), 3) := by decide +kernel
theorem dX1_nextFrom_31 : decode cX1_nextFrom 31 = .ok (.iconst (-1), 1) := by decide +kernel
theorem dX1_nextFrom_32 : decode cX1_nextFrom 32 = .ok (.ireturn, 1) := by decide +kernel
abbrev cX1_matchedAt : ByteArray := prog_3_method_19_code
def yX1_matchedAt : MethodName := ⟨RX1, "matchedAt", "(I)I"⟩
theorem dX1_matchedAt_0 : decode cX1_matchedAt 0 = .ok (.iload_n 1, 1) := by decide +kernel
theorem dX1_matchedAt_1 : decode cX1_matchedAt 1 = .ok (.ifCond .lt 11, 3) := by decide +kernel
theorem dX1_matchedAt_4 : decode cX1_matchedAt 4 = .ok (.iload_n 1, 1) := by decide +kernel
theorem dX1_matchedAt_5 : decode cX1_matchedAt 5 = .ok (.aload_n 0, 1) := by decide +kernel
theorem dX1_matchedAt_6 : decode cX1_matchedAt 6 = .ok (.getfield 20, 3) := by decide +kernel
theorem dX1_matchedAt_9 : decode cX1_matchedAt 9 = .ok (.if_icmp .lt 5, 3) := by decide +kernel
theorem dX1_matchedAt_12 : decode cX1_matchedAt 12 = .ok (.iconst (-1), 1) := by decide +kernel
theorem dX1_matchedAt_13 : decode cX1_matchedAt 13 = .ok (.ireturn, 1) := by decide +kernel
theorem dX1_matchedAt_14 : decode cX1_matchedAt 14 = .ok (.aload_n 0, 1) := by decide +kernel
theorem dX1_matchedAt_15 : decode cX1_matchedAt 15 = .ok (.getfield 16, 3) := by decide +kernel
theorem dX1_matchedAt_18 : decode cX1_matchedAt 18 = .ok (.istore_n 2, 1) := by decide +kernel
theorem dX1_matchedAt_19 : decode cX1_matchedAt 19 = .ok (.iload_n 2, 1) := by decide +kernel
theorem dX1_matchedAt_20 : decode cX1_matchedAt 20 = .ok (.ifCond .le 33, 3) := by decide +kernel
theorem dX1_matchedAt_23 : decode cX1_matchedAt 23 = .ok (.iload_n 2, 1) := by decide +kernel
theorem dX1_matchedAt_24 : decode cX1_matchedAt 24 = .ok (.iload_n 1, 1) := by decide +kernel
theorem dX1_matchedAt_25 : decode cX1_matchedAt 25 = .ok (.iconst 1, 1) := by decide +kernel
theorem dX1_matchedAt_26 : decode cX1_matchedAt 26 = .ok (.iadd, 1) := by decide +kernel
theorem dX1_matchedAt_27 : decode cX1_matchedAt 27 = .ok (.if_icmp .gt 20, 3) := by decide +kernel
theorem dX1_matchedAt_30 : decode cX1_matchedAt 30 = .ok (.aload_n 0, 1) := by decide +kernel
theorem dX1_matchedAt_31 : decode cX1_matchedAt 31 = .ok (.iload_n 1, 1) := by decide +kernel
theorem dX1_matchedAt_32 : decode cX1_matchedAt 32 = .ok (.iconst 1, 1) := by decide +kernel
theorem dX1_matchedAt_33 : decode cX1_matchedAt 33 = .ok (.iadd, 1) := by decide +kernel
theorem dX1_matchedAt_34 : decode cX1_matchedAt 34 = .ok (.iload_n 2, 1) := by decide +kernel
theorem dX1_matchedAt_35 : decode cX1_matchedAt 35 = .ok (.isub, 1) := by decide +kernel
theorem dX1_matchedAt_36 : decode cX1_matchedAt 36 = .ok (.bipush 60, 2) := by decide +kernel
theorem dX1_matchedAt_38 : decode cX1_matchedAt 38 = .ok (.iload_n 2, 1) := by decide +kernel
theorem dX1_matchedAt_39 : decode cX1_matchedAt 39 = .ok (.invokevirtual 27, 3) := by decide +kernel
theorem dX1_matchedAt_42 : decode cX1_matchedAt 42 = .ok (.ifCond .eq 5, 3) := by decide +kernel
theorem dX1_matchedAt_45 : decode cX1_matchedAt 45 = .ok (.iload_n 2, 1) := by decide +kernel
theorem dX1_matchedAt_46 : decode cX1_matchedAt 46 = .ok (.ireturn, 1) := by decide +kernel
theorem dX1_matchedAt_47 : decode cX1_matchedAt 47 = .ok (.iinc 2 (-1), 3) := by decide +kernel
theorem dX1_matchedAt_50 : decode cX1_matchedAt 50 = .ok (.goto (-31), 3) := by decide +kernel
theorem dX1_matchedAt_53 : decode cX1_matchedAt 53 = .ok (.iconst 0, 1) := by decide +kernel
theorem dX1_matchedAt_54 : decode cX1_matchedAt 54 = .ok (.ireturn, 1) := by decide +kernel
abbrev cX1_border : ByteArray := prog_3_method_21_code
def yX1_border : MethodName := ⟨RX1, "border", "(I)I"⟩
theorem dX1_border_0 : decode cX1_border 0 = .ok (.iload_n 1, 1) := by decide +kernel
theorem dX1_border_1 : decode cX1_border 1 = .ok (.iconst 1, 1) := by decide +kernel
theorem dX1_border_2 : decode cX1_border 2 = .ok (.if_icmp .lt 11, 3) := by decide +kernel
theorem dX1_border_5 : decode cX1_border 5 = .ok (.iload_n 1, 1) := by decide +kernel
theorem dX1_border_6 : decode cX1_border 6 = .ok (.aload_n 0, 1) := by decide +kernel
theorem dX1_border_7 : decode cX1_border 7 = .ok (.getfield 16, 3) := by decide +kernel
theorem dX1_border_10 : decode cX1_border 10 = .ok (.if_icmp .le 7, 3) := by decide +kernel
theorem dX1_border_13 : decode cX1_border 13 = .ok (.iconst (-1), 1) := by decide +kernel
theorem dX1_border_14 : decode cX1_border 14 = .ok (.goto 8, 3) := by decide +kernel
theorem dX1_border_17 : decode cX1_border 17 = .ok (.aload_n 0, 1) := by decide +kernel
theorem dX1_border_18 : decode cX1_border 18 = .ok (.iload_n 1, 1) := by decide +kernel
theorem dX1_border_19 : decode cX1_border 19 = .ok (.invokevirtual 35, 3) := by decide +kernel
theorem dX1_border_22 : decode cX1_border 22 = .ok (.ireturn, 1) := by decide +kernel
abbrev cX1_widest : ByteArray := prog_3_method_20_code
def yX1_widest : MethodName := ⟨RX1, "widest", "(I)I"⟩
theorem dX1_widest_0 : decode cX1_widest 0 = .ok (.iload_n 1, 1) := by decide +kernel
theorem dX1_widest_1 : decode cX1_widest 1 = .ok (.iconst 1, 1) := by decide +kernel
theorem dX1_widest_2 : decode cX1_widest 2 = .ok (.isub, 1) := by decide +kernel
theorem dX1_widest_3 : decode cX1_widest 3 = .ok (.istore_n 2, 1) := by decide +kernel
theorem dX1_widest_4 : decode cX1_widest 4 = .ok (.iload_n 2, 1) := by decide +kernel
theorem dX1_widest_5 : decode cX1_widest 5 = .ok (.ifCond .le 27, 3) := by decide +kernel
theorem dX1_widest_8 : decode cX1_widest 8 = .ok (.aload_n 0, 1) := by decide +kernel
theorem dX1_widest_9 : decode cX1_widest 9 = .ok (.bipush 60, 2) := by decide +kernel
theorem dX1_widest_11 : decode cX1_widest 11 = .ok (.bipush 60, 2) := by decide +kernel
theorem dX1_widest_13 : decode cX1_widest 13 = .ok (.iload_n 1, 1) := by decide +kernel
theorem dX1_widest_14 : decode cX1_widest 14 = .ok (.iadd, 1) := by decide +kernel
theorem dX1_widest_15 : decode cX1_widest 15 = .ok (.iload_n 2, 1) := by decide +kernel
theorem dX1_widest_16 : decode cX1_widest 16 = .ok (.isub, 1) := by decide +kernel
theorem dX1_widest_17 : decode cX1_widest 17 = .ok (.iload_n 2, 1) := by decide +kernel
theorem dX1_widest_18 : decode cX1_widest 18 = .ok (.invokevirtual 27, 3) := by decide +kernel
theorem dX1_widest_21 : decode cX1_widest 21 = .ok (.ifCond .eq 5, 3) := by decide +kernel
theorem dX1_widest_24 : decode cX1_widest 24 = .ok (.iload_n 2, 1) := by decide +kernel
theorem dX1_widest_25 : decode cX1_widest 25 = .ok (.ireturn, 1) := by decide +kernel
theorem dX1_widest_26 : decode cX1_widest 26 = .ok (.iinc 2 (-1), 3) := by decide +kernel
theorem dX1_widest_29 : decode cX1_widest 29 = .ok (.goto (-25), 3) := by decide +kernel
theorem dX1_widest_32 : decode cX1_widest 32 = .ok (.iconst 0, 1) := by decide +kernel
theorem dX1_widest_33 : decode cX1_widest 33 = .ok (.ireturn, 1) := by decide +kernel
abbrev cX1_period : ByteArray := prog_3_method_22_code
def yX1_period : MethodName := ⟨RX1, "period", "()I"⟩
theorem dX1_period_0 : decode cX1_period 0 = .ok (.iconst 1, 1) := by decide +kernel
theorem dX1_period_1 : decode cX1_period 1 = .ok (.istore_n 1, 1) := by decide +kernel
theorem dX1_period_2 : decode cX1_period 2 = .ok (.iload_n 1, 1) := by decide +kernel
theorem dX1_period_3 : decode cX1_period 3 = .ok (.aload_n 0, 1) := by decide +kernel
theorem dX1_period_4 : decode cX1_period 4 = .ok (.getfield 16, 3) := by decide +kernel
theorem dX1_period_7 : decode cX1_period 7 = .ok (.if_icmp .gt 30, 3) := by decide +kernel
theorem dX1_period_10 : decode cX1_period 10 = .ok (.aload_n 0, 1) := by decide +kernel
theorem dX1_period_11 : decode cX1_period 11 = .ok (.bipush 60, 2) := by decide +kernel
theorem dX1_period_13 : decode cX1_period 13 = .ok (.iload_n 1, 1) := by decide +kernel
theorem dX1_period_14 : decode cX1_period 14 = .ok (.iadd, 1) := by decide +kernel
theorem dX1_period_15 : decode cX1_period 15 = .ok (.bipush 60, 2) := by decide +kernel
theorem dX1_period_17 : decode cX1_period 17 = .ok (.aload_n 0, 1) := by decide +kernel
theorem dX1_period_18 : decode cX1_period 18 = .ok (.getfield 16, 3) := by decide +kernel
theorem dX1_period_21 : decode cX1_period 21 = .ok (.iload_n 1, 1) := by decide +kernel
theorem dX1_period_22 : decode cX1_period 22 = .ok (.isub, 1) := by decide +kernel
theorem dX1_period_23 : decode cX1_period 23 = .ok (.invokevirtual 27, 3) := by decide +kernel
theorem dX1_period_26 : decode cX1_period 26 = .ok (.ifCond .eq 5, 3) := by decide +kernel
theorem dX1_period_29 : decode cX1_period 29 = .ok (.iload_n 1, 1) := by decide +kernel
theorem dX1_period_30 : decode cX1_period 30 = .ok (.ireturn, 1) := by decide +kernel
theorem dX1_period_31 : decode cX1_period 31 = .ok (.iinc 1 1, 3) := by decide +kernel
theorem dX1_period_34 : decode cX1_period 34 = .ok (.goto (-32), 3) := by decide +kernel
theorem dX1_period_37 : decode cX1_period 37 = .ok (.iconst 0, 1) := by decide +kernel
theorem dX1_period_38 : decode cX1_period 38 = .ok (.ireturn, 1) := by decide +kernel
abbrev cX1_rank : ByteArray := prog_3_method_23_code
def yX1_rank : MethodName := ⟨RX1, "rank", "(I)I"⟩
theorem dX1_rank_0 : decode cX1_rank 0 = .ok (.iload_n 1, 1) := by decide +kernel
theorem dX1_rank_1 : decode cX1_rank 1 = .ok (.ifCond .lt 11, 3) := by decide +kernel
theorem dX1_rank_4 : decode cX1_rank 4 = .ok (.iload_n 1, 1) := by decide +kernel
theorem dX1_rank_5 : decode cX1_rank 5 = .ok (.aload_n 0, 1) := by decide +kernel
theorem dX1_rank_6 : decode cX1_rank 6 = .ok (.getfield 16, 3) := by decide +kernel
theorem dX1_rank_9 : decode cX1_rank 9 = .ok (.if_icmp .lt 5, 3) := by decide +kernel
theorem dX1_rank_12 : decode cX1_rank 12 = .ok (.iconst (-1), 1) := by decide +kernel
theorem dX1_rank_13 : decode cX1_rank 13 = .ok (.ireturn, 1) := by decide +kernel
theorem dX1_rank_14 : decode cX1_rank 14 = .ok (.iconst 0, 1) := by decide +kernel
theorem dX1_rank_15 : decode cX1_rank 15 = .ok (.istore_n 2, 1) := by decide +kernel
theorem dX1_rank_16 : decode cX1_rank 16 = .ok (.iconst 0, 1) := by decide +kernel
theorem dX1_rank_17 : decode cX1_rank 17 = .ok (.istore_n 3, 1) := by decide +kernel
theorem dX1_rank_18 : decode cX1_rank 18 = .ok (.iload_n 3, 1) := by decide +kernel
theorem dX1_rank_19 : decode cX1_rank 19 = .ok (.iload_n 1, 1) := by decide +kernel
theorem dX1_rank_20 : decode cX1_rank 20 = .ok (.if_icmp .ge 39, 3) := by decide +kernel
theorem dX1_rank_23 : decode cX1_rank 23 = .ok (.aload_n 0, 1) := by decide +kernel
theorem dX1_rank_24 : decode cX1_rank 24 = .ok (.bipush 60, 2) := by decide +kernel
theorem dX1_rank_26 : decode cX1_rank 26 = .ok (.iload_n 3, 1) := by decide +kernel
theorem dX1_rank_27 : decode cX1_rank 27 = .ok (.iadd, 1) := by decide +kernel
theorem dX1_rank_28 : decode cX1_rank 28 = .ok (.bipush 60, 2) := by decide +kernel
theorem dX1_rank_30 : decode cX1_rank 30 = .ok (.iload_n 1, 1) := by decide +kernel
theorem dX1_rank_31 : decode cX1_rank 31 = .ok (.iadd, 1) := by decide +kernel
theorem dX1_rank_32 : decode cX1_rank 32 = .ok (.invokevirtual 23, 3) := by decide +kernel
theorem dX1_rank_35 : decode cX1_rank 35 = .ok (.istore 4, 2) := by decide +kernel
theorem dX1_rank_37 : decode cX1_rank 37 = .ok (.iload 4, 2) := by decide +kernel
theorem dX1_rank_39 : decode cX1_rank 39 = .ok (.ifCond .ge 6, 3) := by decide +kernel
theorem dX1_rank_42 : decode cX1_rank 42 = .ok (.iinc 2 1, 3) := by decide +kernel
theorem dX1_rank_45 : decode cX1_rank 45 = .ok (.iload 4, 2) := by decide +kernel
theorem dX1_rank_47 : decode cX1_rank 47 = .ok (.ifCond .ne 6, 3) := by decide +kernel
theorem dX1_rank_50 : decode cX1_rank 50 = .ok (.iinc 2 16, 3) := by decide +kernel
theorem dX1_rank_53 : decode cX1_rank 53 = .ok (.iinc 3 1, 3) := by decide +kernel
theorem dX1_rank_56 : decode cX1_rank 56 = .ok (.goto (-38), 3) := by decide +kernel
theorem dX1_rank_59 : decode cX1_rank 59 = .ok (.iload_n 2, 1) := by decide +kernel
theorem dX1_rank_60 : decode cX1_rank 60 = .ok (.ireturn, 1) := by decide +kernel
abbrev cX1_disjoint : ByteArray := prog_3_method_24_code
def yX1_disjoint : MethodName := ⟨RX1, "disjoint", "()I"⟩
theorem dX1_disjoint_0 : decode cX1_disjoint 0 = .ok (.iconst 0, 1) := by decide +kernel
theorem dX1_disjoint_1 : decode cX1_disjoint 1 = .ok (.istore_n 1, 1) := by decide +kernel
theorem dX1_disjoint_2 : decode cX1_disjoint 2 = .ok (.iload_n 1, 1) := by decide +kernel
theorem dX1_disjoint_3 : decode cX1_disjoint 3 = .ok (.bipush 61, 2) := by decide +kernel
theorem dX1_disjoint_5 : decode cX1_disjoint 5 = .ok (.if_icmp .ge 16, 3) := by decide +kernel
theorem dX1_disjoint_8 : decode cX1_disjoint 8 = .ok (.aload_n 0, 1) := by decide +kernel
theorem dX1_disjoint_9 : decode cX1_disjoint 9 = .ok (.getfield 13, 3) := by decide +kernel
theorem dX1_disjoint_12 : decode cX1_disjoint 12 = .ok (.iload_n 1, 1) := by decide +kernel
theorem dX1_disjoint_13 : decode cX1_disjoint 13 = .ok (.iconst 0, 1) := by decide +kernel
theorem dX1_disjoint_14 : decode cX1_disjoint 14 = .ok (.iastore, 1) := by decide +kernel
theorem dX1_disjoint_15 : decode cX1_disjoint 15 = .ok (.iinc 1 1, 3) := by decide +kernel
theorem dX1_disjoint_18 : decode cX1_disjoint 18 = .ok (.goto (-16), 3) := by decide +kernel
theorem dX1_disjoint_21 : decode cX1_disjoint 21 = .ok (.aload_n 0, 1) := by decide +kernel
theorem dX1_disjoint_22 : decode cX1_disjoint 22 = .ok (.getfield 20, 3) := by decide +kernel
theorem dX1_disjoint_25 : decode cX1_disjoint 25 = .ok (.iconst 1, 1) := by decide +kernel
theorem dX1_disjoint_26 : decode cX1_disjoint 26 = .ok (.isub, 1) := by decide +kernel
theorem dX1_disjoint_27 : decode cX1_disjoint 27 = .ok (.istore_n 1, 1) := by decide +kernel
theorem dX1_disjoint_28 : decode cX1_disjoint 28 = .ok (.iload_n 1, 1) := by decide +kernel
theorem dX1_disjoint_29 : decode cX1_disjoint 29 = .ok (.ifCond .lt 62, 3) := by decide +kernel
theorem dX1_disjoint_32 : decode cX1_disjoint 32 = .ok (.aload_n 0, 1) := by decide +kernel
theorem dX1_disjoint_33 : decode cX1_disjoint 33 = .ok (.getfield 13, 3) := by decide +kernel
theorem dX1_disjoint_36 : decode cX1_disjoint 36 = .ok (.iload_n 1, 1) := by decide +kernel
theorem dX1_disjoint_37 : decode cX1_disjoint 37 = .ok (.aload_n 0, 1) := by decide +kernel
theorem dX1_disjoint_38 : decode cX1_disjoint 38 = .ok (.getfield 13, 3) := by decide +kernel
theorem dX1_disjoint_41 : decode cX1_disjoint 41 = .ok (.iload_n 1, 1) := by decide +kernel
theorem dX1_disjoint_42 : decode cX1_disjoint 42 = .ok (.iconst 1, 1) := by decide +kernel
theorem dX1_disjoint_43 : decode cX1_disjoint 43 = .ok (.iadd, 1) := by decide +kernel
theorem dX1_disjoint_44 : decode cX1_disjoint 44 = .ok (.iaload, 1) := by decide +kernel
theorem dX1_disjoint_45 : decode cX1_disjoint 45 = .ok (.iastore, 1) := by decide +kernel
theorem dX1_disjoint_46 : decode cX1_disjoint 46 = .ok (.aload_n 0, 1) := by decide +kernel
theorem dX1_disjoint_47 : decode cX1_disjoint 47 = .ok (.iload_n 1, 1) := by decide +kernel
theorem dX1_disjoint_48 : decode cX1_disjoint 48 = .ok (.invokevirtual 31, 3) := by decide +kernel
theorem dX1_disjoint_51 : decode cX1_disjoint 51 = .ok (.ifCond .eq 34, 3) := by decide +kernel
theorem dX1_disjoint_54 : decode cX1_disjoint 54 = .ok (.iconst 1, 1) := by decide +kernel
theorem dX1_disjoint_55 : decode cX1_disjoint 55 = .ok (.aload_n 0, 1) := by decide +kernel
theorem dX1_disjoint_56 : decode cX1_disjoint 56 = .ok (.getfield 13, 3) := by decide +kernel
theorem dX1_disjoint_59 : decode cX1_disjoint 59 = .ok (.iload_n 1, 1) := by decide +kernel
theorem dX1_disjoint_60 : decode cX1_disjoint 60 = .ok (.aload_n 0, 1) := by decide +kernel
theorem dX1_disjoint_61 : decode cX1_disjoint 61 = .ok (.getfield 16, 3) := by decide +kernel
theorem dX1_disjoint_64 : decode cX1_disjoint 64 = .ok (.iadd, 1) := by decide +kernel
theorem dX1_disjoint_65 : decode cX1_disjoint 65 = .ok (.iaload, 1) := by decide +kernel
theorem dX1_disjoint_66 : decode cX1_disjoint 66 = .ok (.iadd, 1) := by decide +kernel
theorem dX1_disjoint_67 : decode cX1_disjoint 67 = .ok (.istore_n 2, 1) := by decide +kernel
theorem dX1_disjoint_68 : decode cX1_disjoint 68 = .ok (.iload_n 2, 1) := by decide +kernel
theorem dX1_disjoint_69 : decode cX1_disjoint 69 = .ok (.aload_n 0, 1) := by decide +kernel
theorem dX1_disjoint_70 : decode cX1_disjoint 70 = .ok (.getfield 13, 3) := by decide +kernel
theorem dX1_disjoint_73 : decode cX1_disjoint 73 = .ok (.iload_n 1, 1) := by decide +kernel
theorem dX1_disjoint_74 : decode cX1_disjoint 74 = .ok (.iaload, 1) := by decide +kernel
theorem dX1_disjoint_75 : decode cX1_disjoint 75 = .ok (.if_icmp .le 10, 3) := by decide +kernel
theorem dX1_disjoint_78 : decode cX1_disjoint 78 = .ok (.aload_n 0, 1) := by decide +kernel
theorem dX1_disjoint_79 : decode cX1_disjoint 79 = .ok (.getfield 13, 3) := by decide +kernel
theorem dX1_disjoint_82 : decode cX1_disjoint 82 = .ok (.iload_n 1, 1) := by decide +kernel
theorem dX1_disjoint_83 : decode cX1_disjoint 83 = .ok (.iload_n 2, 1) := by decide +kernel
theorem dX1_disjoint_84 : decode cX1_disjoint 84 = .ok (.iastore, 1) := by decide +kernel
theorem dX1_disjoint_85 : decode cX1_disjoint 85 = .ok (.iinc 1 (-1), 3) := by decide +kernel
theorem dX1_disjoint_88 : decode cX1_disjoint 88 = .ok (.goto (-60), 3) := by decide +kernel
theorem dX1_disjoint_91 : decode cX1_disjoint 91 = .ok (.aload_n 0, 1) := by decide +kernel
theorem dX1_disjoint_92 : decode cX1_disjoint 92 = .ok (.getfield 13, 3) := by decide +kernel
theorem dX1_disjoint_95 : decode cX1_disjoint 95 = .ok (.iconst 0, 1) := by decide +kernel
theorem dX1_disjoint_96 : decode cX1_disjoint 96 = .ok (.iaload, 1) := by decide +kernel
theorem dX1_disjoint_97 : decode cX1_disjoint 97 = .ok (.ireturn, 1) := by decide +kernel
theorem q14 : (Jvm.Cond.initialized "OrderMatcherModel") ∈ lw_all := lw_g (lw_at lw_m1 2 rfl) rfl
theorem q164 : (Jvm.Cond.instantiable "OrderMatcherModel" (4 : Nat)) ∈ lw_all := lw_g (lw_at lw_m1 152 rfl) rfl
theorem q166 : (Jvm.Cond.instanceMethod ({ cls := "OrderMatcherModel", name := "<init>", desc := "()V" } : Jvm.MethodName)) ∈ lw_all := lw_g (lw_at lw_m1 154 rfl) rfl
theorem q167 : (Jvm.Cond.code ({ cls := "OrderMatcherModel", name := "<init>", desc := "()V" } : Jvm.MethodName) prog_3_method_1_code (1 : Nat) (Option.none : Option Jvm.ClassFile.FieldType)) ∈ lw_all := lw_g (lw_at lw_m1 155 rfl) rfl
theorem q168 : (Jvm.Cond.methodLink "OrderMatcherModel" (1 : Nat) ({ cls := "java/lang/Object", name := "<init>", desc := "()V" } : Jvm.MethodName)) ∈ lw_all := lw_g (lw_at lw_m1 156 rfl) rfl
theorem q169 : (Jvm.Cond.fieldLink "OrderMatcherModel" (7 : Nat) "OrderMatcherModel" "value" "[I") ∈ lw_all := lw_g (lw_at lw_m1 157 rfl) rfl
theorem q170 : (Jvm.Cond.fieldLink "OrderMatcherModel" (20 : Nat) "OrderMatcherModel" "length" "I") ∈ lw_all := lw_g (lw_at lw_m1 158 rfl) rfl
theorem q171 : (Jvm.Cond.fieldLink "OrderMatcherModel" (16 : Nat) "OrderMatcherModel" "size" "I") ∈ lw_all := lw_g (lw_at lw_m1 159 rfl) rfl
theorem q172 : (Jvm.Cond.fieldLink "OrderMatcherModel" (13 : Nat) "OrderMatcherModel" "best" "[I") ∈ lw_all := lw_g (lw_at lw_m1 160 rfl) rfl
theorem q173 : (Jvm.Cond.lays "OrderMatcherModel" "OrderMatcherModel" "value" "[I") ∈ lw_all := lw_g (lw_at lw_m1 161 rfl) rfl
theorem q174 : (Jvm.Cond.soleField "OrderMatcherModel" "value") ∈ lw_all := lw_g (lw_at lw_m1 162 rfl) rfl
theorem q175 : (Jvm.Cond.lays "OrderMatcherModel" "OrderMatcherModel" "length" "I") ∈ lw_all := lw_g (lw_at lw_m1 163 rfl) rfl
theorem q176 : (Jvm.Cond.soleField "OrderMatcherModel" "length") ∈ lw_all := lw_g (lw_at lw_m1 164 rfl) rfl
theorem q177 : (Jvm.Cond.lays "OrderMatcherModel" "OrderMatcherModel" "size" "I") ∈ lw_all := lw_g (lw_at lw_m1 165 rfl) rfl
theorem q178 : (Jvm.Cond.soleField "OrderMatcherModel" "size") ∈ lw_all := lw_g (lw_at lw_m1 166 rfl) rfl
theorem q179 : (Jvm.Cond.lays "OrderMatcherModel" "OrderMatcherModel" "best" "[I") ∈ lw_all := lw_g (lw_at lw_m1 167 rfl) rfl
theorem q180 : (Jvm.Cond.soleField "OrderMatcherModel" "best") ∈ lw_all := lw_g (lw_at lw_m1 168 rfl) rfl
theorem q181 : (Jvm.Cond.superclass "OrderMatcherModel" "java/lang/Object") ∈ lw_all := lw_g (lw_at lw_m1 169 rfl) rfl
theorem q183 : (Jvm.Cond.instanceMethod ({ cls := "OrderMatcherModel", name := "pattern", desc := "(I)I" } : Jvm.MethodName)) ∈ lw_all := lw_g (lw_at lw_m1 171 rfl) rfl
theorem q184 : (Jvm.Cond.selects "OrderMatcherModel" ({ cls := "OrderMatcherModel", name := "pattern", desc := "(I)I" } : Jvm.MethodName) ({ cls := "OrderMatcherModel", name := "pattern", desc := "(I)I" } : Jvm.MethodName)) ∈ lw_all := lw_g (lw_at lw_m1 172 rfl) rfl
theorem q185 : (Jvm.Cond.code ({ cls := "OrderMatcherModel", name := "pattern", desc := "(I)I" } : Jvm.MethodName) prog_3_method_2_code (2 : Nat) (Option.some Jvm.ClassFile.FieldType.int)) ∈ lw_all := lw_g (lw_at lw_m1 173 rfl) rfl
theorem q187 : (Jvm.Cond.instanceMethod ({ cls := "OrderMatcherModel", name := "clearPattern", desc := "()I" } : Jvm.MethodName)) ∈ lw_all := lw_g (lw_at lw_m1 175 rfl) rfl
theorem q188 : (Jvm.Cond.selects "OrderMatcherModel" ({ cls := "OrderMatcherModel", name := "clearPattern", desc := "()I" } : Jvm.MethodName) ({ cls := "OrderMatcherModel", name := "clearPattern", desc := "()I" } : Jvm.MethodName)) ∈ lw_all := lw_g (lw_at lw_m1 176 rfl) rfl
theorem q189 : (Jvm.Cond.code ({ cls := "OrderMatcherModel", name := "clearPattern", desc := "()I" } : Jvm.MethodName) prog_3_method_3_code (2 : Nat) (Option.some Jvm.ClassFile.FieldType.int)) ∈ lw_all := lw_g (lw_at lw_m1 177 rfl) rfl
theorem q191 : (Jvm.Cond.instanceMethod ({ cls := "OrderMatcherModel", name := "take", desc := "(II)I" } : Jvm.MethodName)) ∈ lw_all := lw_g (lw_at lw_m1 179 rfl) rfl
theorem q192 : (Jvm.Cond.selects "OrderMatcherModel" ({ cls := "OrderMatcherModel", name := "take", desc := "(II)I" } : Jvm.MethodName) ({ cls := "OrderMatcherModel", name := "take", desc := "(II)I" } : Jvm.MethodName)) ∈ lw_all := lw_g (lw_at lw_m1 180 rfl) rfl
theorem q193 : (Jvm.Cond.code ({ cls := "OrderMatcherModel", name := "take", desc := "(II)I" } : Jvm.MethodName) prog_3_method_4_code (4 : Nat) (Option.some Jvm.ClassFile.FieldType.int)) ∈ lw_all := lw_g (lw_at lw_m1 181 rfl) rfl
theorem q195 : (Jvm.Cond.instanceMethod ({ cls := "OrderMatcherModel", name := "feed", desc := "(I)I" } : Jvm.MethodName)) ∈ lw_all := lw_g (lw_at lw_m1 183 rfl) rfl
theorem q196 : (Jvm.Cond.selects "OrderMatcherModel" ({ cls := "OrderMatcherModel", name := "feed", desc := "(I)I" } : Jvm.MethodName) ({ cls := "OrderMatcherModel", name := "feed", desc := "(I)I" } : Jvm.MethodName)) ∈ lw_all := lw_g (lw_at lw_m1 184 rfl) rfl
theorem q197 : (Jvm.Cond.code ({ cls := "OrderMatcherModel", name := "feed", desc := "(I)I" } : Jvm.MethodName) prog_3_method_5_code (2 : Nat) (Option.some Jvm.ClassFile.FieldType.int)) ∈ lw_all := lw_g (lw_at lw_m1 185 rfl) rfl
theorem q199 : (Jvm.Cond.instanceMethod ({ cls := "OrderMatcherModel", name := "ramp", desc := "(III)I" } : Jvm.MethodName)) ∈ lw_all := lw_g (lw_at lw_m1 187 rfl) rfl
theorem q200 : (Jvm.Cond.selects "OrderMatcherModel" ({ cls := "OrderMatcherModel", name := "ramp", desc := "(III)I" } : Jvm.MethodName) ({ cls := "OrderMatcherModel", name := "ramp", desc := "(III)I" } : Jvm.MethodName)) ∈ lw_all := lw_g (lw_at lw_m1 188 rfl) rfl
theorem q201 : (Jvm.Cond.code ({ cls := "OrderMatcherModel", name := "ramp", desc := "(III)I" } : Jvm.MethodName) prog_3_method_6_code (5 : Nat) (Option.some Jvm.ClassFile.FieldType.int)) ∈ lw_all := lw_g (lw_at lw_m1 189 rfl) rfl
theorem q203 : (Jvm.Cond.instanceMethod ({ cls := "OrderMatcherModel", name := "echo", desc := "(III)I" } : Jvm.MethodName)) ∈ lw_all := lw_g (lw_at lw_m1 191 rfl) rfl
theorem q204 : (Jvm.Cond.selects "OrderMatcherModel" ({ cls := "OrderMatcherModel", name := "echo", desc := "(III)I" } : Jvm.MethodName) ({ cls := "OrderMatcherModel", name := "echo", desc := "(III)I" } : Jvm.MethodName)) ∈ lw_all := lw_g (lw_at lw_m1 192 rfl) rfl
theorem q205 : (Jvm.Cond.code ({ cls := "OrderMatcherModel", name := "echo", desc := "(III)I" } : Jvm.MethodName) prog_3_method_7_code (7 : Nat) (Option.some Jvm.ClassFile.FieldType.int)) ∈ lw_all := lw_g (lw_at lw_m1 193 rfl) rfl
theorem q207 : (Jvm.Cond.instanceMethod ({ cls := "OrderMatcherModel", name := "undo", desc := "(I)I" } : Jvm.MethodName)) ∈ lw_all := lw_g (lw_at lw_m1 195 rfl) rfl
theorem q208 : (Jvm.Cond.selects "OrderMatcherModel" ({ cls := "OrderMatcherModel", name := "undo", desc := "(I)I" } : Jvm.MethodName) ({ cls := "OrderMatcherModel", name := "undo", desc := "(I)I" } : Jvm.MethodName)) ∈ lw_all := lw_g (lw_at lw_m1 196 rfl) rfl
theorem q209 : (Jvm.Cond.code ({ cls := "OrderMatcherModel", name := "undo", desc := "(I)I" } : Jvm.MethodName) prog_3_method_8_code (2 : Nat) (Option.some Jvm.ClassFile.FieldType.int)) ∈ lw_all := lw_g (lw_at lw_m1 197 rfl) rfl
theorem q211 : (Jvm.Cond.instanceMethod ({ cls := "OrderMatcherModel", name := "length", desc := "()I" } : Jvm.MethodName)) ∈ lw_all := lw_g (lw_at lw_m1 199 rfl) rfl
theorem q212 : (Jvm.Cond.selects "OrderMatcherModel" ({ cls := "OrderMatcherModel", name := "length", desc := "()I" } : Jvm.MethodName) ({ cls := "OrderMatcherModel", name := "length", desc := "()I" } : Jvm.MethodName)) ∈ lw_all := lw_g (lw_at lw_m1 200 rfl) rfl
theorem q213 : (Jvm.Cond.code ({ cls := "OrderMatcherModel", name := "length", desc := "()I" } : Jvm.MethodName) prog_3_method_9_code (1 : Nat) (Option.some Jvm.ClassFile.FieldType.int)) ∈ lw_all := lw_g (lw_at lw_m1 201 rfl) rfl
theorem q215 : (Jvm.Cond.instanceMethod ({ cls := "OrderMatcherModel", name := "patternLength", desc := "()I" } : Jvm.MethodName)) ∈ lw_all := lw_g (lw_at lw_m1 203 rfl) rfl
theorem q216 : (Jvm.Cond.selects "OrderMatcherModel" ({ cls := "OrderMatcherModel", name := "patternLength", desc := "()I" } : Jvm.MethodName) ({ cls := "OrderMatcherModel", name := "patternLength", desc := "()I" } : Jvm.MethodName)) ∈ lw_all := lw_g (lw_at lw_m1 204 rfl) rfl
theorem q217 : (Jvm.Cond.code ({ cls := "OrderMatcherModel", name := "patternLength", desc := "()I" } : Jvm.MethodName) prog_3_method_10_code (1 : Nat) (Option.some Jvm.ClassFile.FieldType.int)) ∈ lw_all := lw_g (lw_at lw_m1 205 rfl) rfl
theorem q219 : (Jvm.Cond.instanceMethod ({ cls := "OrderMatcherModel", name := "valueAt", desc := "(I)I" } : Jvm.MethodName)) ∈ lw_all := lw_g (lw_at lw_m1 207 rfl) rfl
theorem q220 : (Jvm.Cond.selects "OrderMatcherModel" ({ cls := "OrderMatcherModel", name := "valueAt", desc := "(I)I" } : Jvm.MethodName) ({ cls := "OrderMatcherModel", name := "valueAt", desc := "(I)I" } : Jvm.MethodName)) ∈ lw_all := lw_g (lw_at lw_m1 208 rfl) rfl
theorem q221 : (Jvm.Cond.code ({ cls := "OrderMatcherModel", name := "valueAt", desc := "(I)I" } : Jvm.MethodName) prog_3_method_11_code (2 : Nat) (Option.some Jvm.ClassFile.FieldType.int)) ∈ lw_all := lw_g (lw_at lw_m1 209 rfl) rfl
theorem q223 : (Jvm.Cond.instanceMethod ({ cls := "OrderMatcherModel", name := "occurrences", desc := "()I" } : Jvm.MethodName)) ∈ lw_all := lw_g (lw_at lw_m1 211 rfl) rfl
theorem q224 : (Jvm.Cond.selects "OrderMatcherModel" ({ cls := "OrderMatcherModel", name := "occurrences", desc := "()I" } : Jvm.MethodName) ({ cls := "OrderMatcherModel", name := "occurrences", desc := "()I" } : Jvm.MethodName)) ∈ lw_all := lw_g (lw_at lw_m1 212 rfl) rfl
theorem q225 : (Jvm.Cond.code ({ cls := "OrderMatcherModel", name := "occurrences", desc := "()I" } : Jvm.MethodName) prog_3_method_15_code (3 : Nat) (Option.some Jvm.ClassFile.FieldType.int)) ∈ lw_all := lw_g (lw_at lw_m1 213 rfl) rfl
theorem q226 : (Jvm.Cond.methodLink "OrderMatcherModel" (31 : Nat) ({ cls := "OrderMatcherModel", name := "occurs", desc := "(I)Z" } : Jvm.MethodName)) ∈ lw_all := lw_g (lw_at lw_m1 214 rfl) rfl
theorem q227 : (Jvm.Cond.privateMethod ({ cls := "OrderMatcherModel", name := "occurs", desc := "(I)Z" } : Jvm.MethodName)) ∈ lw_tbl := lw_at lw_m1 215 rfl
theorem q228 : (Jvm.Cond.instanceMethod ({ cls := "OrderMatcherModel", name := "occurs", desc := "(I)Z" } : Jvm.MethodName)) ∈ lw_all := lw_g (lw_at lw_m1 216 rfl) rfl
theorem q229 : (Jvm.Cond.code ({ cls := "OrderMatcherModel", name := "occurs", desc := "(I)Z" } : Jvm.MethodName) prog_3_method_14_code (2 : Nat) (Option.some Jvm.ClassFile.FieldType.boolean)) ∈ lw_all := lw_g (lw_at lw_m1 217 rfl) rfl
theorem q230 : (Jvm.Cond.methodLink "OrderMatcherModel" (27 : Nat) ({ cls := "OrderMatcherModel", name := "alike", desc := "(III)Z" } : Jvm.MethodName)) ∈ lw_all := lw_g (lw_at lw_m1 218 rfl) rfl
theorem q231 : (Jvm.Cond.privateMethod ({ cls := "OrderMatcherModel", name := "alike", desc := "(III)Z" } : Jvm.MethodName)) ∈ lw_tbl := lw_at lw_m1 219 rfl
theorem q232 : (Jvm.Cond.instanceMethod ({ cls := "OrderMatcherModel", name := "alike", desc := "(III)Z" } : Jvm.MethodName)) ∈ lw_all := lw_g (lw_at lw_m1 220 rfl) rfl
theorem q233 : (Jvm.Cond.code ({ cls := "OrderMatcherModel", name := "alike", desc := "(III)Z" } : Jvm.MethodName) prog_3_method_13_code (6 : Nat) (Option.some Jvm.ClassFile.FieldType.boolean)) ∈ lw_all := lw_g (lw_at lw_m1 221 rfl) rfl
theorem q234 : (Jvm.Cond.methodLink "OrderMatcherModel" (23 : Nat) ({ cls := "OrderMatcherModel", name := "order", desc := "(II)I" } : Jvm.MethodName)) ∈ lw_all := lw_g (lw_at lw_m1 222 rfl) rfl
theorem q235 : (Jvm.Cond.privateMethod ({ cls := "OrderMatcherModel", name := "order", desc := "(II)I" } : Jvm.MethodName)) ∈ lw_tbl := lw_at lw_m1 223 rfl
theorem q236 : (Jvm.Cond.instanceMethod ({ cls := "OrderMatcherModel", name := "order", desc := "(II)I" } : Jvm.MethodName)) ∈ lw_all := lw_g (lw_at lw_m1 224 rfl) rfl
theorem q237 : (Jvm.Cond.code ({ cls := "OrderMatcherModel", name := "order", desc := "(II)I" } : Jvm.MethodName) prog_3_method_12_code (3 : Nat) (Option.some Jvm.ClassFile.FieldType.int)) ∈ lw_all := lw_g (lw_at lw_m1 225 rfl) rfl
theorem q239 : (Jvm.Cond.instanceMethod ({ cls := "OrderMatcherModel", name := "occurrence", desc := "(I)I" } : Jvm.MethodName)) ∈ lw_all := lw_g (lw_at lw_m1 227 rfl) rfl
theorem q240 : (Jvm.Cond.selects "OrderMatcherModel" ({ cls := "OrderMatcherModel", name := "occurrence", desc := "(I)I" } : Jvm.MethodName) ({ cls := "OrderMatcherModel", name := "occurrence", desc := "(I)I" } : Jvm.MethodName)) ∈ lw_all := lw_g (lw_at lw_m1 228 rfl) rfl
theorem q241 : (Jvm.Cond.code ({ cls := "OrderMatcherModel", name := "occurrence", desc := "(I)I" } : Jvm.MethodName) prog_3_method_16_code (4 : Nat) (Option.some Jvm.ClassFile.FieldType.int)) ∈ lw_all := lw_g (lw_at lw_m1 229 rfl) rfl
theorem q243 : (Jvm.Cond.instanceMethod ({ cls := "OrderMatcherModel", name := "occursAt", desc := "(I)I" } : Jvm.MethodName)) ∈ lw_all := lw_g (lw_at lw_m1 231 rfl) rfl
theorem q244 : (Jvm.Cond.selects "OrderMatcherModel" ({ cls := "OrderMatcherModel", name := "occursAt", desc := "(I)I" } : Jvm.MethodName) ({ cls := "OrderMatcherModel", name := "occursAt", desc := "(I)I" } : Jvm.MethodName)) ∈ lw_all := lw_g (lw_at lw_m1 232 rfl) rfl
theorem q245 : (Jvm.Cond.code ({ cls := "OrderMatcherModel", name := "occursAt", desc := "(I)I" } : Jvm.MethodName) prog_3_method_17_code (2 : Nat) (Option.some Jvm.ClassFile.FieldType.int)) ∈ lw_all := lw_g (lw_at lw_m1 233 rfl) rfl
theorem q247 : (Jvm.Cond.instanceMethod ({ cls := "OrderMatcherModel", name := "nextFrom", desc := "(I)I" } : Jvm.MethodName)) ∈ lw_all := lw_g (lw_at lw_m1 235 rfl) rfl
theorem q248 : (Jvm.Cond.selects "OrderMatcherModel" ({ cls := "OrderMatcherModel", name := "nextFrom", desc := "(I)I" } : Jvm.MethodName) ({ cls := "OrderMatcherModel", name := "nextFrom", desc := "(I)I" } : Jvm.MethodName)) ∈ lw_all := lw_g (lw_at lw_m1 236 rfl) rfl
theorem q249 : (Jvm.Cond.code ({ cls := "OrderMatcherModel", name := "nextFrom", desc := "(I)I" } : Jvm.MethodName) prog_3_method_18_code (3 : Nat) (Option.some Jvm.ClassFile.FieldType.int)) ∈ lw_all := lw_g (lw_at lw_m1 237 rfl) rfl
theorem q251 : (Jvm.Cond.instanceMethod ({ cls := "OrderMatcherModel", name := "matchedAt", desc := "(I)I" } : Jvm.MethodName)) ∈ lw_all := lw_g (lw_at lw_m1 239 rfl) rfl
theorem q252 : (Jvm.Cond.selects "OrderMatcherModel" ({ cls := "OrderMatcherModel", name := "matchedAt", desc := "(I)I" } : Jvm.MethodName) ({ cls := "OrderMatcherModel", name := "matchedAt", desc := "(I)I" } : Jvm.MethodName)) ∈ lw_all := lw_g (lw_at lw_m2 0 rfl) rfl
theorem q253 : (Jvm.Cond.code ({ cls := "OrderMatcherModel", name := "matchedAt", desc := "(I)I" } : Jvm.MethodName) prog_3_method_19_code (3 : Nat) (Option.some Jvm.ClassFile.FieldType.int)) ∈ lw_all := lw_g (lw_at lw_m2 1 rfl) rfl
theorem q255 : (Jvm.Cond.instanceMethod ({ cls := "OrderMatcherModel", name := "border", desc := "(I)I" } : Jvm.MethodName)) ∈ lw_all := lw_g (lw_at lw_m2 3 rfl) rfl
theorem q256 : (Jvm.Cond.selects "OrderMatcherModel" ({ cls := "OrderMatcherModel", name := "border", desc := "(I)I" } : Jvm.MethodName) ({ cls := "OrderMatcherModel", name := "border", desc := "(I)I" } : Jvm.MethodName)) ∈ lw_all := lw_g (lw_at lw_m2 4 rfl) rfl
theorem q257 : (Jvm.Cond.code ({ cls := "OrderMatcherModel", name := "border", desc := "(I)I" } : Jvm.MethodName) prog_3_method_21_code (2 : Nat) (Option.some Jvm.ClassFile.FieldType.int)) ∈ lw_all := lw_g (lw_at lw_m2 5 rfl) rfl
theorem q258 : (Jvm.Cond.methodLink "OrderMatcherModel" (35 : Nat) ({ cls := "OrderMatcherModel", name := "widest", desc := "(I)I" } : Jvm.MethodName)) ∈ lw_all := lw_g (lw_at lw_m2 6 rfl) rfl
theorem q259 : (Jvm.Cond.privateMethod ({ cls := "OrderMatcherModel", name := "widest", desc := "(I)I" } : Jvm.MethodName)) ∈ lw_tbl := lw_at lw_m2 7 rfl
theorem q260 : (Jvm.Cond.instanceMethod ({ cls := "OrderMatcherModel", name := "widest", desc := "(I)I" } : Jvm.MethodName)) ∈ lw_all := lw_g (lw_at lw_m2 8 rfl) rfl
theorem q261 : (Jvm.Cond.code ({ cls := "OrderMatcherModel", name := "widest", desc := "(I)I" } : Jvm.MethodName) prog_3_method_20_code (3 : Nat) (Option.some Jvm.ClassFile.FieldType.int)) ∈ lw_all := lw_g (lw_at lw_m2 9 rfl) rfl
theorem q263 : (Jvm.Cond.instanceMethod ({ cls := "OrderMatcherModel", name := "period", desc := "()I" } : Jvm.MethodName)) ∈ lw_all := lw_g (lw_at lw_m2 11 rfl) rfl
theorem q264 : (Jvm.Cond.selects "OrderMatcherModel" ({ cls := "OrderMatcherModel", name := "period", desc := "()I" } : Jvm.MethodName) ({ cls := "OrderMatcherModel", name := "period", desc := "()I" } : Jvm.MethodName)) ∈ lw_all := lw_g (lw_at lw_m2 12 rfl) rfl
theorem q265 : (Jvm.Cond.code ({ cls := "OrderMatcherModel", name := "period", desc := "()I" } : Jvm.MethodName) prog_3_method_22_code (2 : Nat) (Option.some Jvm.ClassFile.FieldType.int)) ∈ lw_all := lw_g (lw_at lw_m2 13 rfl) rfl
theorem q267 : (Jvm.Cond.instanceMethod ({ cls := "OrderMatcherModel", name := "rank", desc := "(I)I" } : Jvm.MethodName)) ∈ lw_all := lw_g (lw_at lw_m2 15 rfl) rfl
theorem q268 : (Jvm.Cond.selects "OrderMatcherModel" ({ cls := "OrderMatcherModel", name := "rank", desc := "(I)I" } : Jvm.MethodName) ({ cls := "OrderMatcherModel", name := "rank", desc := "(I)I" } : Jvm.MethodName)) ∈ lw_all := lw_g (lw_at lw_m2 16 rfl) rfl
theorem q269 : (Jvm.Cond.code ({ cls := "OrderMatcherModel", name := "rank", desc := "(I)I" } : Jvm.MethodName) prog_3_method_23_code (5 : Nat) (Option.some Jvm.ClassFile.FieldType.int)) ∈ lw_all := lw_g (lw_at lw_m2 17 rfl) rfl
theorem q271 : (Jvm.Cond.instanceMethod ({ cls := "OrderMatcherModel", name := "disjoint", desc := "()I" } : Jvm.MethodName)) ∈ lw_all := lw_g (lw_at lw_m2 19 rfl) rfl
theorem q272 : (Jvm.Cond.selects "OrderMatcherModel" ({ cls := "OrderMatcherModel", name := "disjoint", desc := "()I" } : Jvm.MethodName) ({ cls := "OrderMatcherModel", name := "disjoint", desc := "()I" } : Jvm.MethodName)) ∈ lw_all := lw_g (lw_at lw_m2 20 rfl) rfl
theorem q273 : (Jvm.Cond.code ({ cls := "OrderMatcherModel", name := "disjoint", desc := "()I" } : Jvm.MethodName) prog_3_method_24_code (3 : Nat) (Option.some Jvm.ClassFile.FieldType.int)) ∈ lw_all := lw_g (lw_at lw_m2 21 rfl) rfl
theorem in_X1 : ∀ w ∈ wsX10, w ∈ lw_all := lw_in wsX10 [173, 175, 177, 179] (by decide +kernel) (by decide +kernel)
end
section
/-! the law's own entry -/
set_option maxRecDepth 100000
abbrev cL_law : ByteArray := code
theorem dL_law_0 : decode cL_law 0 = .ok (.new 7, 3) := by decide +kernel
theorem dL_law_3 : decode cL_law 3 = .ok (.dup, 1) := by decide +kernel
theorem dL_law_4 : decode cL_law 4 = .ok (.invokespecial 9, 3) := by decide +kernel
theorem dL_law_7 : decode cL_law 7 = .ok (.astore_n 1, 1) := by decide +kernel
theorem dL_law_8 : decode cL_law 8 = .ok (.new 10, 3) := by decide +kernel
theorem dL_law_11 : decode cL_law 11 = .ok (.dup, 1) := by decide +kernel
theorem dL_law_12 : decode cL_law 12 = .ok (.invokespecial 12, 3) := by decide +kernel
theorem dL_law_15 : decode cL_law 15 = .ok (.astore_n 2, 1) := by decide +kernel
theorem dL_law_16 : decode cL_law 16 = .ok (.iconst 0, 1) := by decide +kernel
theorem dL_law_17 : decode cL_law 17 = .ok (.istore_n 3, 1) := by decide +kernel
theorem dL_law_18 : decode cL_law 18 = .ok (.iload_n 3, 1) := by decide +kernel
theorem dL_law_19 : decode cL_law 19 = .ok (.aload_n 0, 1) := by decide +kernel
theorem dL_law_20 : decode cL_law 20 = .ok (.arraylength, 1) := by decide +kernel
theorem dL_law_21 : decode cL_law 21 = .ok (.iconst 4, 1) := by decide +kernel
theorem dL_law_22 : decode cL_law 22 = .ok (.isub, 1) := by decide +kernel
theorem dL_law_23 : decode cL_law 23 = .ok (.if_icmp .gt 534, 3) := by decide +kernel
theorem dL_law_26 : decode cL_law 26 = .ok (.aload_n 0, 1) := by decide +kernel
theorem dL_law_27 : decode cL_law 27 = .ok (.iload_n 3, 1) := by decide +kernel
theorem dL_law_28 : decode cL_law 28 = .ok (.iaload, 1) := by decide +kernel
theorem dL_law_29 : decode cL_law 29 = .ok (.bipush 31, 2) := by decide +kernel
theorem dL_law_31 : decode cL_law 31 = .ok (.iand, 1) := by decide +kernel
theorem dL_law_32 : decode cL_law 32 = .ok (.tableswitch 519 0 18 #[92, 115, 128, 161, 184, 227, 270, 293, 306, 319, 342, 355, 378, 401, 424, 447, 470, 483, 506], 92) := by decide +kernel
theorem dL_law_124 : decode cL_law 124 = .ok (.aload_n 1, 1) := by decide +kernel
theorem dL_law_125 : decode cL_law 125 = .ok (.aload_n 0, 1) := by decide +kernel
theorem dL_law_126 : decode cL_law 126 = .ok (.iload_n 3, 1) := by decide +kernel
theorem dL_law_127 : decode cL_law 127 = .ok (.iconst 1, 1) := by decide +kernel
theorem dL_law_128 : decode cL_law 128 = .ok (.iadd, 1) := by decide +kernel
theorem dL_law_129 : decode cL_law 129 = .ok (.iaload, 1) := by decide +kernel
theorem dL_law_130 : decode cL_law 130 = .ok (.invokevirtual 13, 3) := by decide +kernel
theorem dL_law_133 : decode cL_law 133 = .ok (.aload_n 2, 1) := by decide +kernel
theorem dL_law_134 : decode cL_law 134 = .ok (.aload_n 0, 1) := by decide +kernel
theorem dL_law_135 : decode cL_law 135 = .ok (.iload_n 3, 1) := by decide +kernel
theorem dL_law_136 : decode cL_law 136 = .ok (.iconst 1, 1) := by decide +kernel
theorem dL_law_137 : decode cL_law 137 = .ok (.iadd, 1) := by decide +kernel
theorem dL_law_138 : decode cL_law 138 = .ok (.iaload, 1) := by decide +kernel
theorem dL_law_139 : decode cL_law 139 = .ok (.invokevirtual 17, 3) := by decide +kernel
theorem dL_law_142 : decode cL_law 142 = .ok (.if_icmp .eq 409, 3) := by decide +kernel
theorem dL_law_145 : decode cL_law 145 = .ok (.iconst 0, 1) := by decide +kernel
theorem dL_law_146 : decode cL_law 146 = .ok (.ireturn, 1) := by decide +kernel
theorem dL_law_147 : decode cL_law 147 = .ok (.aload_n 1, 1) := by decide +kernel
theorem dL_law_148 : decode cL_law 148 = .ok (.invokevirtual 18, 3) := by decide +kernel
theorem dL_law_151 : decode cL_law 151 = .ok (.aload_n 2, 1) := by decide +kernel
theorem dL_law_152 : decode cL_law 152 = .ok (.invokevirtual 22, 3) := by decide +kernel
theorem dL_law_155 : decode cL_law 155 = .ok (.if_icmp .eq 396, 3) := by decide +kernel
theorem dL_law_158 : decode cL_law 158 = .ok (.iconst 0, 1) := by decide +kernel
theorem dL_law_159 : decode cL_law 159 = .ok (.ireturn, 1) := by decide +kernel
theorem dL_law_160 : decode cL_law 160 = .ok (.aload_n 1, 1) := by decide +kernel
theorem dL_law_161 : decode cL_law 161 = .ok (.aload_n 0, 1) := by decide +kernel
theorem dL_law_162 : decode cL_law 162 = .ok (.iload_n 3, 1) := by decide +kernel
theorem dL_law_163 : decode cL_law 163 = .ok (.iconst 1, 1) := by decide +kernel
theorem dL_law_164 : decode cL_law 164 = .ok (.iadd, 1) := by decide +kernel
theorem dL_law_165 : decode cL_law 165 = .ok (.iaload, 1) := by decide +kernel
theorem dL_law_166 : decode cL_law 166 = .ok (.aload_n 0, 1) := by decide +kernel
theorem dL_law_167 : decode cL_law 167 = .ok (.iload_n 3, 1) := by decide +kernel
theorem dL_law_168 : decode cL_law 168 = .ok (.iconst 2, 1) := by decide +kernel
theorem dL_law_169 : decode cL_law 169 = .ok (.iadd, 1) := by decide +kernel
theorem dL_law_170 : decode cL_law 170 = .ok (.iaload, 1) := by decide +kernel
theorem dL_law_171 : decode cL_law 171 = .ok (.invokevirtual 23, 3) := by decide +kernel
theorem dL_law_174 : decode cL_law 174 = .ok (.aload_n 2, 1) := by decide +kernel
theorem dL_law_175 : decode cL_law 175 = .ok (.aload_n 0, 1) := by decide +kernel
theorem dL_law_176 : decode cL_law 176 = .ok (.iload_n 3, 1) := by decide +kernel
theorem dL_law_177 : decode cL_law 177 = .ok (.iconst 1, 1) := by decide +kernel
theorem dL_law_178 : decode cL_law 178 = .ok (.iadd, 1) := by decide +kernel
theorem dL_law_179 : decode cL_law 179 = .ok (.iaload, 1) := by decide +kernel
theorem dL_law_180 : decode cL_law 180 = .ok (.aload_n 0, 1) := by decide +kernel
theorem dL_law_181 : decode cL_law 181 = .ok (.iload_n 3, 1) := by decide +kernel
theorem dL_law_182 : decode cL_law 182 = .ok (.iconst 2, 1) := by decide +kernel
theorem dL_law_183 : decode cL_law 183 = .ok (.iadd, 1) := by decide +kernel
theorem dL_law_184 : decode cL_law 184 = .ok (.iaload, 1) := by decide +kernel
theorem dL_law_185 : decode cL_law 185 = .ok (.invokevirtual 27, 3) := by decide +kernel
theorem dL_law_188 : decode cL_law 188 = .ok (.if_icmp .eq 363, 3) := by decide +kernel
theorem dL_law_191 : decode cL_law 191 = .ok (.iconst 0, 1) := by decide +kernel
theorem dL_law_192 : decode cL_law 192 = .ok (.ireturn, 1) := by decide +kernel
theorem dL_law_193 : decode cL_law 193 = .ok (.aload_n 1, 1) := by decide +kernel
theorem dL_law_194 : decode cL_law 194 = .ok (.aload_n 0, 1) := by decide +kernel
theorem dL_law_195 : decode cL_law 195 = .ok (.iload_n 3, 1) := by decide +kernel
theorem dL_law_196 : decode cL_law 196 = .ok (.iconst 1, 1) := by decide +kernel
theorem dL_law_197 : decode cL_law 197 = .ok (.iadd, 1) := by decide +kernel
theorem dL_law_198 : decode cL_law 198 = .ok (.iaload, 1) := by decide +kernel
theorem dL_law_199 : decode cL_law 199 = .ok (.invokevirtual 28, 3) := by decide +kernel
theorem dL_law_202 : decode cL_law 202 = .ok (.aload_n 2, 1) := by decide +kernel
theorem dL_law_203 : decode cL_law 203 = .ok (.aload_n 0, 1) := by decide +kernel
theorem dL_law_204 : decode cL_law 204 = .ok (.iload_n 3, 1) := by decide +kernel
theorem dL_law_205 : decode cL_law 205 = .ok (.iconst 1, 1) := by decide +kernel
theorem dL_law_206 : decode cL_law 206 = .ok (.iadd, 1) := by decide +kernel
theorem dL_law_207 : decode cL_law 207 = .ok (.iaload, 1) := by decide +kernel
theorem dL_law_208 : decode cL_law 208 = .ok (.invokevirtual 31, 3) := by decide +kernel
theorem dL_law_211 : decode cL_law 211 = .ok (.if_icmp .eq 340, 3) := by decide +kernel
theorem dL_law_214 : decode cL_law 214 = .ok (.iconst 0, 1) := by decide +kernel
theorem dL_law_215 : decode cL_law 215 = .ok (.ireturn, 1) := by decide +kernel
theorem dL_law_216 : decode cL_law 216 = .ok (.aload_n 1, 1) := by decide +kernel
theorem dL_law_217 : decode cL_law 217 = .ok (.aload_n 0, 1) := by decide +kernel
theorem dL_law_218 : decode cL_law 218 = .ok (.iload_n 3, 1) := by decide +kernel
theorem dL_law_219 : decode cL_law 219 = .ok (.iconst 1, 1) := by decide +kernel
theorem dL_law_220 : decode cL_law 220 = .ok (.iadd, 1) := by decide +kernel
theorem dL_law_221 : decode cL_law 221 = .ok (.iaload, 1) := by decide +kernel
theorem dL_law_222 : decode cL_law 222 = .ok (.aload_n 0, 1) := by decide +kernel
theorem dL_law_223 : decode cL_law 223 = .ok (.iload_n 3, 1) := by decide +kernel
theorem dL_law_224 : decode cL_law 224 = .ok (.iconst 2, 1) := by decide +kernel
theorem dL_law_225 : decode cL_law 225 = .ok (.iadd, 1) := by decide +kernel
theorem dL_law_226 : decode cL_law 226 = .ok (.iaload, 1) := by decide +kernel
theorem dL_law_227 : decode cL_law 227 = .ok (.aload_n 0, 1) := by decide +kernel
theorem dL_law_228 : decode cL_law 228 = .ok (.iload_n 3, 1) := by decide +kernel
theorem dL_law_229 : decode cL_law 229 = .ok (.iconst 3, 1) := by decide +kernel
theorem dL_law_230 : decode cL_law 230 = .ok (.iadd, 1) := by decide +kernel
theorem dL_law_231 : decode cL_law 231 = .ok (.iaload, 1) := by decide +kernel
theorem dL_law_232 : decode cL_law 232 = .ok (.invokevirtual 32, 3) := by decide +kernel
theorem dL_law_235 : decode cL_law 235 = .ok (.aload_n 2, 1) := by decide +kernel
theorem dL_law_236 : decode cL_law 236 = .ok (.aload_n 0, 1) := by decide +kernel
theorem dL_law_237 : decode cL_law 237 = .ok (.iload_n 3, 1) := by decide +kernel
theorem dL_law_238 : decode cL_law 238 = .ok (.iconst 1, 1) := by decide +kernel
theorem dL_law_239 : decode cL_law 239 = .ok (.iadd, 1) := by decide +kernel
theorem dL_law_240 : decode cL_law 240 = .ok (.iaload, 1) := by decide +kernel
theorem dL_law_241 : decode cL_law 241 = .ok (.aload_n 0, 1) := by decide +kernel
theorem dL_law_242 : decode cL_law 242 = .ok (.iload_n 3, 1) := by decide +kernel
theorem dL_law_243 : decode cL_law 243 = .ok (.iconst 2, 1) := by decide +kernel
theorem dL_law_244 : decode cL_law 244 = .ok (.iadd, 1) := by decide +kernel
theorem dL_law_245 : decode cL_law 245 = .ok (.iaload, 1) := by decide +kernel
theorem dL_law_246 : decode cL_law 246 = .ok (.aload_n 0, 1) := by decide +kernel
theorem dL_law_247 : decode cL_law 247 = .ok (.iload_n 3, 1) := by decide +kernel
theorem dL_law_248 : decode cL_law 248 = .ok (.iconst 3, 1) := by decide +kernel
theorem dL_law_249 : decode cL_law 249 = .ok (.iadd, 1) := by decide +kernel
theorem dL_law_250 : decode cL_law 250 = .ok (.iaload, 1) := by decide +kernel
theorem dL_law_251 : decode cL_law 251 = .ok (.invokevirtual 36, 3) := by decide +kernel
theorem dL_law_254 : decode cL_law 254 = .ok (.if_icmp .eq 297, 3) := by decide +kernel
theorem dL_law_257 : decode cL_law 257 = .ok (.iconst 0, 1) := by decide +kernel
theorem dL_law_258 : decode cL_law 258 = .ok (.ireturn, 1) := by decide +kernel
theorem dL_law_259 : decode cL_law 259 = .ok (.aload_n 1, 1) := by decide +kernel
theorem dL_law_260 : decode cL_law 260 = .ok (.aload_n 0, 1) := by decide +kernel
theorem dL_law_261 : decode cL_law 261 = .ok (.iload_n 3, 1) := by decide +kernel
theorem dL_law_262 : decode cL_law 262 = .ok (.iconst 1, 1) := by decide +kernel
theorem dL_law_263 : decode cL_law 263 = .ok (.iadd, 1) := by decide +kernel
theorem dL_law_264 : decode cL_law 264 = .ok (.iaload, 1) := by decide +kernel
theorem dL_law_265 : decode cL_law 265 = .ok (.aload_n 0, 1) := by decide +kernel
theorem dL_law_266 : decode cL_law 266 = .ok (.iload_n 3, 1) := by decide +kernel
theorem dL_law_267 : decode cL_law 267 = .ok (.iconst 2, 1) := by decide +kernel
theorem dL_law_268 : decode cL_law 268 = .ok (.iadd, 1) := by decide +kernel
theorem dL_law_269 : decode cL_law 269 = .ok (.iaload, 1) := by decide +kernel
theorem dL_law_270 : decode cL_law 270 = .ok (.aload_n 0, 1) := by decide +kernel
theorem dL_law_271 : decode cL_law 271 = .ok (.iload_n 3, 1) := by decide +kernel
theorem dL_law_272 : decode cL_law 272 = .ok (.iconst 3, 1) := by decide +kernel
theorem dL_law_273 : decode cL_law 273 = .ok (.iadd, 1) := by decide +kernel
theorem dL_law_274 : decode cL_law 274 = .ok (.iaload, 1) := by decide +kernel
theorem dL_law_275 : decode cL_law 275 = .ok (.invokevirtual 37, 3) := by decide +kernel
theorem dL_law_278 : decode cL_law 278 = .ok (.aload_n 2, 1) := by decide +kernel
theorem dL_law_279 : decode cL_law 279 = .ok (.aload_n 0, 1) := by decide +kernel
theorem dL_law_280 : decode cL_law 280 = .ok (.iload_n 3, 1) := by decide +kernel
theorem dL_law_281 : decode cL_law 281 = .ok (.iconst 1, 1) := by decide +kernel
theorem dL_law_282 : decode cL_law 282 = .ok (.iadd, 1) := by decide +kernel
theorem dL_law_283 : decode cL_law 283 = .ok (.iaload, 1) := by decide +kernel
theorem dL_law_284 : decode cL_law 284 = .ok (.aload_n 0, 1) := by decide +kernel
theorem dL_law_285 : decode cL_law 285 = .ok (.iload_n 3, 1) := by decide +kernel
theorem dL_law_286 : decode cL_law 286 = .ok (.iconst 2, 1) := by decide +kernel
theorem dL_law_287 : decode cL_law 287 = .ok (.iadd, 1) := by decide +kernel
theorem dL_law_288 : decode cL_law 288 = .ok (.iaload, 1) := by decide +kernel
theorem dL_law_289 : decode cL_law 289 = .ok (.aload_n 0, 1) := by decide +kernel
theorem dL_law_290 : decode cL_law 290 = .ok (.iload_n 3, 1) := by decide +kernel
theorem dL_law_291 : decode cL_law 291 = .ok (.iconst 3, 1) := by decide +kernel
theorem dL_law_292 : decode cL_law 292 = .ok (.iadd, 1) := by decide +kernel
theorem dL_law_293 : decode cL_law 293 = .ok (.iaload, 1) := by decide +kernel
theorem dL_law_294 : decode cL_law 294 = .ok (.invokevirtual 40, 3) := by decide +kernel
theorem dL_law_297 : decode cL_law 297 = .ok (.if_icmp .eq 254, 3) := by decide +kernel
theorem dL_law_300 : decode cL_law 300 = .ok (.iconst 0, 1) := by decide +kernel
theorem dL_law_301 : decode cL_law 301 = .ok (.ireturn, 1) := by decide +kernel
theorem dL_law_302 : decode cL_law 302 = .ok (.aload_n 1, 1) := by decide +kernel
theorem dL_law_303 : decode cL_law 303 = .ok (.aload_n 0, 1) := by decide +kernel
theorem dL_law_304 : decode cL_law 304 = .ok (.iload_n 3, 1) := by decide +kernel
theorem dL_law_305 : decode cL_law 305 = .ok (.iconst 1, 1) := by decide +kernel
theorem dL_law_306 : decode cL_law 306 = .ok (.iadd, 1) := by decide +kernel
theorem dL_law_307 : decode cL_law 307 = .ok (.iaload, 1) := by decide +kernel
theorem dL_law_308 : decode cL_law 308 = .ok (.invokevirtual 41, 3) := by decide +kernel
theorem dL_law_311 : decode cL_law 311 = .ok (.aload_n 2, 1) := by decide +kernel
theorem dL_law_312 : decode cL_law 312 = .ok (.aload_n 0, 1) := by decide +kernel
theorem dL_law_313 : decode cL_law 313 = .ok (.iload_n 3, 1) := by decide +kernel
theorem dL_law_314 : decode cL_law 314 = .ok (.iconst 1, 1) := by decide +kernel
theorem dL_law_315 : decode cL_law 315 = .ok (.iadd, 1) := by decide +kernel
theorem dL_law_316 : decode cL_law 316 = .ok (.iaload, 1) := by decide +kernel
theorem dL_law_317 : decode cL_law 317 = .ok (.invokevirtual 44, 3) := by decide +kernel
theorem dL_law_320 : decode cL_law 320 = .ok (.if_icmp .eq 231, 3) := by decide +kernel
theorem dL_law_323 : decode cL_law 323 = .ok (.iconst 0, 1) := by decide +kernel
theorem dL_law_324 : decode cL_law 324 = .ok (.ireturn, 1) := by decide +kernel
theorem dL_law_325 : decode cL_law 325 = .ok (.aload_n 1, 1) := by decide +kernel
theorem dL_law_326 : decode cL_law 326 = .ok (.invokevirtual 45, 3) := by decide +kernel
theorem dL_law_329 : decode cL_law 329 = .ok (.aload_n 2, 1) := by decide +kernel
theorem dL_law_330 : decode cL_law 330 = .ok (.invokevirtual 48, 3) := by decide +kernel
theorem dL_law_333 : decode cL_law 333 = .ok (.if_icmp .eq 218, 3) := by decide +kernel
theorem dL_law_336 : decode cL_law 336 = .ok (.iconst 0, 1) := by decide +kernel
theorem dL_law_337 : decode cL_law 337 = .ok (.ireturn, 1) := by decide +kernel
theorem dL_law_338 : decode cL_law 338 = .ok (.aload_n 1, 1) := by decide +kernel
theorem dL_law_339 : decode cL_law 339 = .ok (.invokevirtual 49, 3) := by decide +kernel
theorem dL_law_342 : decode cL_law 342 = .ok (.aload_n 2, 1) := by decide +kernel
theorem dL_law_343 : decode cL_law 343 = .ok (.invokevirtual 52, 3) := by decide +kernel
theorem dL_law_346 : decode cL_law 346 = .ok (.if_icmp .eq 205, 3) := by decide +kernel
theorem dL_law_349 : decode cL_law 349 = .ok (.iconst 0, 1) := by decide +kernel
theorem dL_law_350 : decode cL_law 350 = .ok (.ireturn, 1) := by decide +kernel
theorem dL_law_351 : decode cL_law 351 = .ok (.aload_n 1, 1) := by decide +kernel
theorem dL_law_352 : decode cL_law 352 = .ok (.aload_n 0, 1) := by decide +kernel
theorem dL_law_353 : decode cL_law 353 = .ok (.iload_n 3, 1) := by decide +kernel
theorem dL_law_354 : decode cL_law 354 = .ok (.iconst 1, 1) := by decide +kernel
theorem dL_law_355 : decode cL_law 355 = .ok (.iadd, 1) := by decide +kernel
theorem dL_law_356 : decode cL_law 356 = .ok (.iaload, 1) := by decide +kernel
theorem dL_law_357 : decode cL_law 357 = .ok (.invokevirtual 53, 3) := by decide +kernel
theorem dL_law_360 : decode cL_law 360 = .ok (.aload_n 2, 1) := by decide +kernel
theorem dL_law_361 : decode cL_law 361 = .ok (.aload_n 0, 1) := by decide +kernel
theorem dL_law_362 : decode cL_law 362 = .ok (.iload_n 3, 1) := by decide +kernel
theorem dL_law_363 : decode cL_law 363 = .ok (.iconst 1, 1) := by decide +kernel
theorem dL_law_364 : decode cL_law 364 = .ok (.iadd, 1) := by decide +kernel
theorem dL_law_365 : decode cL_law 365 = .ok (.iaload, 1) := by decide +kernel
theorem dL_law_366 : decode cL_law 366 = .ok (.invokevirtual 56, 3) := by decide +kernel
theorem dL_law_369 : decode cL_law 369 = .ok (.if_icmp .eq 182, 3) := by decide +kernel
theorem dL_law_372 : decode cL_law 372 = .ok (.iconst 0, 1) := by decide +kernel
theorem dL_law_373 : decode cL_law 373 = .ok (.ireturn, 1) := by decide +kernel
theorem dL_law_374 : decode cL_law 374 = .ok (.aload_n 1, 1) := by decide +kernel
theorem dL_law_375 : decode cL_law 375 = .ok (.invokevirtual 57, 3) := by decide +kernel
theorem dL_law_378 : decode cL_law 378 = .ok (.aload_n 2, 1) := by decide +kernel
theorem dL_law_379 : decode cL_law 379 = .ok (.invokevirtual 60, 3) := by decide +kernel
theorem dL_law_382 : decode cL_law 382 = .ok (.if_icmp .eq 169, 3) := by decide +kernel
theorem dL_law_385 : decode cL_law 385 = .ok (.iconst 0, 1) := by decide +kernel
theorem dL_law_386 : decode cL_law 386 = .ok (.ireturn, 1) := by decide +kernel
theorem dL_law_387 : decode cL_law 387 = .ok (.aload_n 1, 1) := by decide +kernel
theorem dL_law_388 : decode cL_law 388 = .ok (.aload_n 0, 1) := by decide +kernel
theorem dL_law_389 : decode cL_law 389 = .ok (.iload_n 3, 1) := by decide +kernel
theorem dL_law_390 : decode cL_law 390 = .ok (.iconst 1, 1) := by decide +kernel
theorem dL_law_391 : decode cL_law 391 = .ok (.iadd, 1) := by decide +kernel
theorem dL_law_392 : decode cL_law 392 = .ok (.iaload, 1) := by decide +kernel
theorem dL_law_393 : decode cL_law 393 = .ok (.invokevirtual 61, 3) := by decide +kernel
theorem dL_law_396 : decode cL_law 396 = .ok (.aload_n 2, 1) := by decide +kernel
theorem dL_law_397 : decode cL_law 397 = .ok (.aload_n 0, 1) := by decide +kernel
theorem dL_law_398 : decode cL_law 398 = .ok (.iload_n 3, 1) := by decide +kernel
theorem dL_law_399 : decode cL_law 399 = .ok (.iconst 1, 1) := by decide +kernel
theorem dL_law_400 : decode cL_law 400 = .ok (.iadd, 1) := by decide +kernel
theorem dL_law_401 : decode cL_law 401 = .ok (.iaload, 1) := by decide +kernel
theorem dL_law_402 : decode cL_law 402 = .ok (.invokevirtual 64, 3) := by decide +kernel
theorem dL_law_405 : decode cL_law 405 = .ok (.if_icmp .eq 146, 3) := by decide +kernel
theorem dL_law_408 : decode cL_law 408 = .ok (.iconst 0, 1) := by decide +kernel
theorem dL_law_409 : decode cL_law 409 = .ok (.ireturn, 1) := by decide +kernel
theorem dL_law_410 : decode cL_law 410 = .ok (.aload_n 1, 1) := by decide +kernel
theorem dL_law_411 : decode cL_law 411 = .ok (.aload_n 0, 1) := by decide +kernel
theorem dL_law_412 : decode cL_law 412 = .ok (.iload_n 3, 1) := by decide +kernel
theorem dL_law_413 : decode cL_law 413 = .ok (.iconst 1, 1) := by decide +kernel
theorem dL_law_414 : decode cL_law 414 = .ok (.iadd, 1) := by decide +kernel
theorem dL_law_415 : decode cL_law 415 = .ok (.iaload, 1) := by decide +kernel
theorem dL_law_416 : decode cL_law 416 = .ok (.invokevirtual 65, 3) := by decide +kernel
theorem dL_law_419 : decode cL_law 419 = .ok (.aload_n 2, 1) := by decide +kernel
theorem dL_law_420 : decode cL_law 420 = .ok (.aload_n 0, 1) := by decide +kernel
theorem dL_law_421 : decode cL_law 421 = .ok (.iload_n 3, 1) := by decide +kernel
theorem dL_law_422 : decode cL_law 422 = .ok (.iconst 1, 1) := by decide +kernel
theorem dL_law_423 : decode cL_law 423 = .ok (.iadd, 1) := by decide +kernel
theorem dL_law_424 : decode cL_law 424 = .ok (.iaload, 1) := by decide +kernel
theorem dL_law_425 : decode cL_law 425 = .ok (.invokevirtual 68, 3) := by decide +kernel
theorem dL_law_428 : decode cL_law 428 = .ok (.if_icmp .eq 123, 3) := by decide +kernel
theorem dL_law_431 : decode cL_law 431 = .ok (.iconst 0, 1) := by decide +kernel
theorem dL_law_432 : decode cL_law 432 = .ok (.ireturn, 1) := by decide +kernel
theorem dL_law_433 : decode cL_law 433 = .ok (.aload_n 1, 1) := by decide +kernel
theorem dL_law_434 : decode cL_law 434 = .ok (.aload_n 0, 1) := by decide +kernel
theorem dL_law_435 : decode cL_law 435 = .ok (.iload_n 3, 1) := by decide +kernel
theorem dL_law_436 : decode cL_law 436 = .ok (.iconst 1, 1) := by decide +kernel
theorem dL_law_437 : decode cL_law 437 = .ok (.iadd, 1) := by decide +kernel
theorem dL_law_438 : decode cL_law 438 = .ok (.iaload, 1) := by decide +kernel
theorem dL_law_439 : decode cL_law 439 = .ok (.invokevirtual 69, 3) := by decide +kernel
theorem dL_law_442 : decode cL_law 442 = .ok (.aload_n 2, 1) := by decide +kernel
theorem dL_law_443 : decode cL_law 443 = .ok (.aload_n 0, 1) := by decide +kernel
theorem dL_law_444 : decode cL_law 444 = .ok (.iload_n 3, 1) := by decide +kernel
theorem dL_law_445 : decode cL_law 445 = .ok (.iconst 1, 1) := by decide +kernel
theorem dL_law_446 : decode cL_law 446 = .ok (.iadd, 1) := by decide +kernel
theorem dL_law_447 : decode cL_law 447 = .ok (.iaload, 1) := by decide +kernel
theorem dL_law_448 : decode cL_law 448 = .ok (.invokevirtual 72, 3) := by decide +kernel
theorem dL_law_451 : decode cL_law 451 = .ok (.if_icmp .eq 100, 3) := by decide +kernel
theorem dL_law_454 : decode cL_law 454 = .ok (.iconst 0, 1) := by decide +kernel
theorem dL_law_455 : decode cL_law 455 = .ok (.ireturn, 1) := by decide +kernel
theorem dL_law_456 : decode cL_law 456 = .ok (.aload_n 1, 1) := by decide +kernel
theorem dL_law_457 : decode cL_law 457 = .ok (.aload_n 0, 1) := by decide +kernel
theorem dL_law_458 : decode cL_law 458 = .ok (.iload_n 3, 1) := by decide +kernel
theorem dL_law_459 : decode cL_law 459 = .ok (.iconst 1, 1) := by decide +kernel
theorem dL_law_460 : decode cL_law 460 = .ok (.iadd, 1) := by decide +kernel
theorem dL_law_461 : decode cL_law 461 = .ok (.iaload, 1) := by decide +kernel
theorem dL_law_462 : decode cL_law 462 = .ok (.invokevirtual 73, 3) := by decide +kernel
theorem dL_law_465 : decode cL_law 465 = .ok (.aload_n 2, 1) := by decide +kernel
theorem dL_law_466 : decode cL_law 466 = .ok (.aload_n 0, 1) := by decide +kernel
theorem dL_law_467 : decode cL_law 467 = .ok (.iload_n 3, 1) := by decide +kernel
theorem dL_law_468 : decode cL_law 468 = .ok (.iconst 1, 1) := by decide +kernel
theorem dL_law_469 : decode cL_law 469 = .ok (.iadd, 1) := by decide +kernel
theorem dL_law_470 : decode cL_law 470 = .ok (.iaload, 1) := by decide +kernel
theorem dL_law_471 : decode cL_law 471 = .ok (.invokevirtual 76, 3) := by decide +kernel
theorem dL_law_474 : decode cL_law 474 = .ok (.if_icmp .eq 77, 3) := by decide +kernel
theorem dL_law_477 : decode cL_law 477 = .ok (.iconst 0, 1) := by decide +kernel
theorem dL_law_478 : decode cL_law 478 = .ok (.ireturn, 1) := by decide +kernel
theorem dL_law_479 : decode cL_law 479 = .ok (.aload_n 1, 1) := by decide +kernel
theorem dL_law_480 : decode cL_law 480 = .ok (.aload_n 0, 1) := by decide +kernel
theorem dL_law_481 : decode cL_law 481 = .ok (.iload_n 3, 1) := by decide +kernel
theorem dL_law_482 : decode cL_law 482 = .ok (.iconst 1, 1) := by decide +kernel
theorem dL_law_483 : decode cL_law 483 = .ok (.iadd, 1) := by decide +kernel
theorem dL_law_484 : decode cL_law 484 = .ok (.iaload, 1) := by decide +kernel
theorem dL_law_485 : decode cL_law 485 = .ok (.invokevirtual 77, 3) := by decide +kernel
theorem dL_law_488 : decode cL_law 488 = .ok (.aload_n 2, 1) := by decide +kernel
theorem dL_law_489 : decode cL_law 489 = .ok (.aload_n 0, 1) := by decide +kernel
theorem dL_law_490 : decode cL_law 490 = .ok (.iload_n 3, 1) := by decide +kernel
theorem dL_law_491 : decode cL_law 491 = .ok (.iconst 1, 1) := by decide +kernel
theorem dL_law_492 : decode cL_law 492 = .ok (.iadd, 1) := by decide +kernel
theorem dL_law_493 : decode cL_law 493 = .ok (.iaload, 1) := by decide +kernel
theorem dL_law_494 : decode cL_law 494 = .ok (.invokevirtual 80, 3) := by decide +kernel
theorem dL_law_497 : decode cL_law 497 = .ok (.if_icmp .eq 54, 3) := by decide +kernel
theorem dL_law_500 : decode cL_law 500 = .ok (.iconst 0, 1) := by decide +kernel
theorem dL_law_501 : decode cL_law 501 = .ok (.ireturn, 1) := by decide +kernel
theorem dL_law_502 : decode cL_law 502 = .ok (.aload_n 1, 1) := by decide +kernel
theorem dL_law_503 : decode cL_law 503 = .ok (.invokevirtual 81, 3) := by decide +kernel
theorem dL_law_506 : decode cL_law 506 = .ok (.aload_n 2, 1) := by decide +kernel
theorem dL_law_507 : decode cL_law 507 = .ok (.invokevirtual 84, 3) := by decide +kernel
theorem dL_law_510 : decode cL_law 510 = .ok (.if_icmp .eq 41, 3) := by decide +kernel
theorem dL_law_513 : decode cL_law 513 = .ok (.iconst 0, 1) := by decide +kernel
theorem dL_law_514 : decode cL_law 514 = .ok (.ireturn, 1) := by decide +kernel
theorem dL_law_515 : decode cL_law 515 = .ok (.aload_n 1, 1) := by decide +kernel
theorem dL_law_516 : decode cL_law 516 = .ok (.aload_n 0, 1) := by decide +kernel
theorem dL_law_517 : decode cL_law 517 = .ok (.iload_n 3, 1) := by decide +kernel
theorem dL_law_518 : decode cL_law 518 = .ok (.iconst 1, 1) := by decide +kernel
theorem dL_law_519 : decode cL_law 519 = .ok (.iadd, 1) := by decide +kernel
theorem dL_law_520 : decode cL_law 520 = .ok (.iaload, 1) := by decide +kernel
theorem dL_law_521 : decode cL_law 521 = .ok (.invokevirtual 85, 3) := by decide +kernel
theorem dL_law_524 : decode cL_law 524 = .ok (.aload_n 2, 1) := by decide +kernel
theorem dL_law_525 : decode cL_law 525 = .ok (.aload_n 0, 1) := by decide +kernel
theorem dL_law_526 : decode cL_law 526 = .ok (.iload_n 3, 1) := by decide +kernel
theorem dL_law_527 : decode cL_law 527 = .ok (.iconst 1, 1) := by decide +kernel
theorem dL_law_528 : decode cL_law 528 = .ok (.iadd, 1) := by decide +kernel
theorem dL_law_529 : decode cL_law 529 = .ok (.iaload, 1) := by decide +kernel
theorem dL_law_530 : decode cL_law 530 = .ok (.invokevirtual 88, 3) := by decide +kernel
theorem dL_law_533 : decode cL_law 533 = .ok (.if_icmp .eq 18, 3) := by decide +kernel
theorem dL_law_536 : decode cL_law 536 = .ok (.iconst 0, 1) := by decide +kernel
theorem dL_law_537 : decode cL_law 537 = .ok (.ireturn, 1) := by decide +kernel
theorem dL_law_538 : decode cL_law 538 = .ok (.aload_n 1, 1) := by decide +kernel
theorem dL_law_539 : decode cL_law 539 = .ok (.invokevirtual 89, 3) := by decide +kernel
theorem dL_law_542 : decode cL_law 542 = .ok (.aload_n 2, 1) := by decide +kernel
theorem dL_law_543 : decode cL_law 543 = .ok (.invokevirtual 92, 3) := by decide +kernel
theorem dL_law_546 : decode cL_law 546 = .ok (.if_icmp .eq 5, 3) := by decide +kernel
theorem dL_law_549 : decode cL_law 549 = .ok (.iconst 0, 1) := by decide +kernel
theorem dL_law_550 : decode cL_law 550 = .ok (.ireturn, 1) := by decide +kernel
theorem dL_law_551 : decode cL_law 551 = .ok (.iinc 3 4, 3) := by decide +kernel
theorem dL_law_554 : decode cL_law 554 = .ok (.goto (-536), 3) := by decide +kernel
theorem dL_law_557 : decode cL_law 557 = .ok (.iconst 1, 1) := by decide +kernel
theorem dL_law_558 : decode cL_law 558 = .ok (.ireturn, 1) := by decide +kernel
theorem q54 : (Jvm.Cond.arrayClass Jvm.ClassFile.FieldType.int) ∈ lw_all := lw_g (lw_at lw_m1 42 rfl) rfl
set_option maxRecDepth 100000
theorem q12 : (Jvm.Cond.initialized "OrderMatcherLaw") ∈ lw_all := lw_g (lw_at lw_m1 0 rfl) rfl
set_option maxRecDepth 100000
theorem q15 : (Jvm.Cond.classLink "OrderMatcherLaw" (7 : Nat) "OrderMatcher") ∈ lw_all := lw_g (lw_at lw_m1 3 rfl) rfl
theorem q17 : (Jvm.Cond.methodLink "OrderMatcherLaw" (9 : Nat) ({ cls := "OrderMatcher", name := "<init>", desc := "()V" } : Jvm.MethodName)) ∈ lw_all := lw_g (lw_at lw_m1 5 rfl) rfl
theorem q55 : (Jvm.Cond.methodLink "OrderMatcherLaw" (13 : Nat) ({ cls := "OrderMatcher", name := "pattern", desc := "(I)I" } : Jvm.MethodName)) ∈ lw_all := lw_g (lw_at lw_m1 43 rfl) rfl
theorem q63 : (Jvm.Cond.methodLink "OrderMatcherLaw" (18 : Nat) ({ cls := "OrderMatcher", name := "clearPattern", desc := "()I" } : Jvm.MethodName)) ∈ lw_all := lw_g (lw_at lw_m1 51 rfl) rfl
theorem q67 : (Jvm.Cond.methodLink "OrderMatcherLaw" (23 : Nat) ({ cls := "OrderMatcher", name := "take", desc := "(II)I" } : Jvm.MethodName)) ∈ lw_all := lw_g (lw_at lw_m1 55 rfl) rfl
theorem q71 : (Jvm.Cond.methodLink "OrderMatcherLaw" (28 : Nat) ({ cls := "OrderMatcher", name := "feed", desc := "(I)I" } : Jvm.MethodName)) ∈ lw_all := lw_g (lw_at lw_m1 59 rfl) rfl
theorem q75 : (Jvm.Cond.methodLink "OrderMatcherLaw" (32 : Nat) ({ cls := "OrderMatcher", name := "ramp", desc := "(III)I" } : Jvm.MethodName)) ∈ lw_all := lw_g (lw_at lw_m1 63 rfl) rfl
theorem q79 : (Jvm.Cond.methodLink "OrderMatcherLaw" (37 : Nat) ({ cls := "OrderMatcher", name := "echo", desc := "(III)I" } : Jvm.MethodName)) ∈ lw_all := lw_g (lw_at lw_m1 67 rfl) rfl
theorem q83 : (Jvm.Cond.methodLink "OrderMatcherLaw" (41 : Nat) ({ cls := "OrderMatcher", name := "undo", desc := "(I)I" } : Jvm.MethodName)) ∈ lw_all := lw_g (lw_at lw_m1 71 rfl) rfl
theorem q87 : (Jvm.Cond.methodLink "OrderMatcherLaw" (45 : Nat) ({ cls := "OrderMatcher", name := "length", desc := "()I" } : Jvm.MethodName)) ∈ lw_all := lw_g (lw_at lw_m1 75 rfl) rfl
theorem q91 : (Jvm.Cond.methodLink "OrderMatcherLaw" (49 : Nat) ({ cls := "OrderMatcher", name := "patternLength", desc := "()I" } : Jvm.MethodName)) ∈ lw_all := lw_g (lw_at lw_m1 79 rfl) rfl
theorem q95 : (Jvm.Cond.methodLink "OrderMatcherLaw" (53 : Nat) ({ cls := "OrderMatcher", name := "valueAt", desc := "(I)I" } : Jvm.MethodName)) ∈ lw_all := lw_g (lw_at lw_m1 83 rfl) rfl
theorem q99 : (Jvm.Cond.methodLink "OrderMatcherLaw" (57 : Nat) ({ cls := "OrderMatcher", name := "occurrences", desc := "()I" } : Jvm.MethodName)) ∈ lw_all := lw_g (lw_at lw_m1 87 rfl) rfl
theorem q131 : (Jvm.Cond.methodLink "OrderMatcherLaw" (61 : Nat) ({ cls := "OrderMatcher", name := "occurrence", desc := "(I)I" } : Jvm.MethodName)) ∈ lw_all := lw_g (lw_at lw_m1 119 rfl) rfl
theorem q135 : (Jvm.Cond.methodLink "OrderMatcherLaw" (65 : Nat) ({ cls := "OrderMatcher", name := "occursAt", desc := "(I)I" } : Jvm.MethodName)) ∈ lw_all := lw_g (lw_at lw_m1 123 rfl) rfl
theorem q139 : (Jvm.Cond.methodLink "OrderMatcherLaw" (69 : Nat) ({ cls := "OrderMatcher", name := "nextFrom", desc := "(I)I" } : Jvm.MethodName)) ∈ lw_all := lw_g (lw_at lw_m1 127 rfl) rfl
theorem q143 : (Jvm.Cond.methodLink "OrderMatcherLaw" (73 : Nat) ({ cls := "OrderMatcher", name := "matchedAt", desc := "(I)I" } : Jvm.MethodName)) ∈ lw_all := lw_g (lw_at lw_m1 131 rfl) rfl
theorem q147 : (Jvm.Cond.methodLink "OrderMatcherLaw" (77 : Nat) ({ cls := "OrderMatcher", name := "border", desc := "(I)I" } : Jvm.MethodName)) ∈ lw_all := lw_g (lw_at lw_m1 135 rfl) rfl
theorem q151 : (Jvm.Cond.methodLink "OrderMatcherLaw" (81 : Nat) ({ cls := "OrderMatcher", name := "period", desc := "()I" } : Jvm.MethodName)) ∈ lw_all := lw_g (lw_at lw_m1 139 rfl) rfl
theorem q155 : (Jvm.Cond.methodLink "OrderMatcherLaw" (85 : Nat) ({ cls := "OrderMatcher", name := "rank", desc := "(I)I" } : Jvm.MethodName)) ∈ lw_all := lw_g (lw_at lw_m1 143 rfl) rfl
theorem q159 : (Jvm.Cond.methodLink "OrderMatcherLaw" (89 : Nat) ({ cls := "OrderMatcher", name := "disjoint", desc := "()I" } : Jvm.MethodName)) ∈ lw_all := lw_g (lw_at lw_m1 147 rfl) rfl
theorem q163 : (Jvm.Cond.classLink "OrderMatcherLaw" (10 : Nat) "OrderMatcherModel") ∈ lw_all := lw_g (lw_at lw_m1 151 rfl) rfl
theorem q165 : (Jvm.Cond.methodLink "OrderMatcherLaw" (12 : Nat) ({ cls := "OrderMatcherModel", name := "<init>", desc := "()V" } : Jvm.MethodName)) ∈ lw_all := lw_g (lw_at lw_m1 153 rfl) rfl
theorem q182 : (Jvm.Cond.methodLink "OrderMatcherLaw" (17 : Nat) ({ cls := "OrderMatcherModel", name := "pattern", desc := "(I)I" } : Jvm.MethodName)) ∈ lw_all := lw_g (lw_at lw_m1 170 rfl) rfl
theorem q186 : (Jvm.Cond.methodLink "OrderMatcherLaw" (22 : Nat) ({ cls := "OrderMatcherModel", name := "clearPattern", desc := "()I" } : Jvm.MethodName)) ∈ lw_all := lw_g (lw_at lw_m1 174 rfl) rfl
theorem q190 : (Jvm.Cond.methodLink "OrderMatcherLaw" (27 : Nat) ({ cls := "OrderMatcherModel", name := "take", desc := "(II)I" } : Jvm.MethodName)) ∈ lw_all := lw_g (lw_at lw_m1 178 rfl) rfl
theorem q194 : (Jvm.Cond.methodLink "OrderMatcherLaw" (31 : Nat) ({ cls := "OrderMatcherModel", name := "feed", desc := "(I)I" } : Jvm.MethodName)) ∈ lw_all := lw_g (lw_at lw_m1 182 rfl) rfl
theorem q198 : (Jvm.Cond.methodLink "OrderMatcherLaw" (36 : Nat) ({ cls := "OrderMatcherModel", name := "ramp", desc := "(III)I" } : Jvm.MethodName)) ∈ lw_all := lw_g (lw_at lw_m1 186 rfl) rfl
theorem q202 : (Jvm.Cond.methodLink "OrderMatcherLaw" (40 : Nat) ({ cls := "OrderMatcherModel", name := "echo", desc := "(III)I" } : Jvm.MethodName)) ∈ lw_all := lw_g (lw_at lw_m1 190 rfl) rfl
theorem q206 : (Jvm.Cond.methodLink "OrderMatcherLaw" (44 : Nat) ({ cls := "OrderMatcherModel", name := "undo", desc := "(I)I" } : Jvm.MethodName)) ∈ lw_all := lw_g (lw_at lw_m1 194 rfl) rfl
theorem q210 : (Jvm.Cond.methodLink "OrderMatcherLaw" (48 : Nat) ({ cls := "OrderMatcherModel", name := "length", desc := "()I" } : Jvm.MethodName)) ∈ lw_all := lw_g (lw_at lw_m1 198 rfl) rfl
theorem q214 : (Jvm.Cond.methodLink "OrderMatcherLaw" (52 : Nat) ({ cls := "OrderMatcherModel", name := "patternLength", desc := "()I" } : Jvm.MethodName)) ∈ lw_all := lw_g (lw_at lw_m1 202 rfl) rfl
theorem q218 : (Jvm.Cond.methodLink "OrderMatcherLaw" (56 : Nat) ({ cls := "OrderMatcherModel", name := "valueAt", desc := "(I)I" } : Jvm.MethodName)) ∈ lw_all := lw_g (lw_at lw_m1 206 rfl) rfl
theorem q222 : (Jvm.Cond.methodLink "OrderMatcherLaw" (60 : Nat) ({ cls := "OrderMatcherModel", name := "occurrences", desc := "()I" } : Jvm.MethodName)) ∈ lw_all := lw_g (lw_at lw_m1 210 rfl) rfl
theorem q238 : (Jvm.Cond.methodLink "OrderMatcherLaw" (64 : Nat) ({ cls := "OrderMatcherModel", name := "occurrence", desc := "(I)I" } : Jvm.MethodName)) ∈ lw_all := lw_g (lw_at lw_m1 226 rfl) rfl
theorem q242 : (Jvm.Cond.methodLink "OrderMatcherLaw" (68 : Nat) ({ cls := "OrderMatcherModel", name := "occursAt", desc := "(I)I" } : Jvm.MethodName)) ∈ lw_all := lw_g (lw_at lw_m1 230 rfl) rfl
theorem q246 : (Jvm.Cond.methodLink "OrderMatcherLaw" (72 : Nat) ({ cls := "OrderMatcherModel", name := "nextFrom", desc := "(I)I" } : Jvm.MethodName)) ∈ lw_all := lw_g (lw_at lw_m1 234 rfl) rfl
theorem q250 : (Jvm.Cond.methodLink "OrderMatcherLaw" (76 : Nat) ({ cls := "OrderMatcherModel", name := "matchedAt", desc := "(I)I" } : Jvm.MethodName)) ∈ lw_all := lw_g (lw_at lw_m1 238 rfl) rfl
theorem q254 : (Jvm.Cond.methodLink "OrderMatcherLaw" (80 : Nat) ({ cls := "OrderMatcherModel", name := "border", desc := "(I)I" } : Jvm.MethodName)) ∈ lw_all := lw_g (lw_at lw_m2 2 rfl) rfl
theorem q262 : (Jvm.Cond.methodLink "OrderMatcherLaw" (84 : Nat) ({ cls := "OrderMatcherModel", name := "period", desc := "()I" } : Jvm.MethodName)) ∈ lw_all := lw_g (lw_at lw_m2 10 rfl) rfl
theorem q266 : (Jvm.Cond.methodLink "OrderMatcherLaw" (88 : Nat) ({ cls := "OrderMatcherModel", name := "rank", desc := "(I)I" } : Jvm.MethodName)) ∈ lw_all := lw_g (lw_at lw_m2 14 rfl) rfl
theorem q270 : (Jvm.Cond.methodLink "OrderMatcherLaw" (92 : Nat) ({ cls := "OrderMatcherModel", name := "disjoint", desc := "()I" } : Jvm.MethodName)) ∈ lw_all := lw_g (lw_at lw_m2 18 rfl) rfl
end
section
/-! THE PLAIN LAW: words of one shape, longest borders, counts, the greedy choice; no machine in sight -/
def bI (b : Bool) : Int32 := if b = true then nI 1 else nI 0
theorem bI_t : bI true = nI 1 := rfl
theorem bI_f : bI false = nI 0 := rfl
theorem om_m1 {q : Nat} (h : q < 2 ^ 31) : ¬ nI q = -1 := by
  intro e
  have := nI_pos (n := q) h
  rw [e] at this
  exact this (by decide)
def om_ord (a b : Int32) : Int32 := if a < b then -1 else if b < a then nI 1 else nI 0
theorem om_ord_eq {a b c e : Int32} : om_ord a b = om_ord c e ↔ ((a < b ↔ c < e) ∧ (b < a ↔ e < c)) := by
  unfold om_ord
  have h1 : ¬ (-1 : Int32) = nI 1 := by decide
  have h2 : ¬ (-1 : Int32) = nI 0 := by decide
  have h3 : ¬ nI 1 = nI 0 := by decide
  have h4 : ¬ nI 1 = (-1 : Int32) := by decide
  have h5 : ¬ nI 0 = (-1 : Int32) := by decide
  have h6 : ¬ nI 0 = nI 1 := by decide
  have key : ∀ x y : Int, (x < y ∧ ¬ y < x) ∨ (¬ x < y ∧ y < x) ∨ (¬ x < y ∧ ¬ y < x) := by intro x y; omega
  rcases key a.toInt b.toInt with ⟨p, q⟩ | ⟨p, q⟩ | ⟨p, q⟩ <;> rcases key c.toInt e.toInt with ⟨r, t⟩ | ⟨r, t⟩ | ⟨r, t⟩ <;> simp only [Int32.lt_iff_toInt_lt, p, q, r, t, if_true, if_false, h1, h2, h3, h4, h5, h6, true_iff, false_iff, not_true_eq_false, not_false_eq_true, and_self, and_true, and_false, true_and, false_and]
/-- two words of length k have one shape -/
def om_ap (f g : Nat → Int32) (k : Nat) : Bool := (List.range k).all fun i => (List.range i).all fun j => decide (om_ord (f i) (f j) = om_ord (g i) (g j))
theorem om_ap_iff {f g : Nat → Int32} {k : Nat} : om_ap f g k = true ↔ ∀ i, i < k → ∀ j, j < i → om_ord (f i) (f j) = om_ord (g i) (g j) := by
  simp only [om_ap, List.all_eq_true, List.mem_range, decide_eq_true_eq]
def om_iso (f g : Nat → Int32) (k : Nat) : Prop := ∀ i j, i < k → j < k → (f i < f j ↔ g i < g j)
theorem om_irr (a : Int32) : ¬ a < a := by rw [Int32.lt_iff_toInt_lt]; omega
theorem om_ap_iso {f g : Nat → Int32} {k : Nat} : om_ap f g k = true ↔ om_iso f g k := by
  rw [om_ap_iff]
  constructor
  · intro h i j hi hj
    rcases Nat.lt_trichotomy i j with q | q | q
    · exact (om_ord_eq.mp (h j hj i q)).2
    · subst q
      exact ⟨fun z => absurd z (om_irr _), fun z => absurd z (om_irr _)⟩
    · exact (om_ord_eq.mp (h i hi j q)).1
  · intro h i hi j hj
    exact om_ord_eq.mpr ⟨h i j hi (by omega), h j i (by omega) hi⟩
theorem om_iso_symm {f g : Nat → Int32} {k : Nat} (h : om_iso f g k) : om_iso g f k := fun i j hi hj => (h i j hi hj).symm
theorem om_iso_trans {f g e : Nat → Int32} {k : Nat} (h : om_iso f g k) (h2 : om_iso g e k) : om_iso f e k := fun i j hi hj => (h i j hi hj).trans (h2 i j hi hj)
theorem om_iso_mono {f g : Nat → Int32} {k m : Nat} (h : om_iso f g k) (hm : m ≤ k) : om_iso f g m := fun i j hi hj => h i j (by omega) (by omega)
theorem om_iso_shift {f g : Nat → Int32} {k : Nat} (h : om_iso f g k) (a b : Nat) (hm : a + b ≤ k) : om_iso (fun i => f (a + i)) (fun i => g (a + i)) b := fun i j hi hj => h (a + i) (a + j) (by omega) (by omega)
theorem om_iso_congr {f g f2 g2 : Nat → Int32} {k : Nat} (h : om_iso f g k) (hf : ∀ i, i < k → f i = f2 i) (hg : ∀ i, i < k → g i = g2 i) : om_iso f2 g2 k := by
  intro i j hi hj
  rw [← hf i hi, ← hf j hj, ← hg i hi, ← hg j hj]
  exact h i j hi hj
theorem om_iso_0 {f g : Nat → Int32} : om_iso f g 0 := fun i _ hi => absurd hi (Nat.not_lt_zero i)
theorem om_iso_1 {f g : Nat → Int32} : om_iso f g 1 := by
  intro i j hi hj
  have e1 : i = 0 := by omega
  have e2 : j = 0 := by omega
  subst e1; subst e2
  exact ⟨fun z => absurd z (om_irr _), fun z => absurd z (om_irr _)⟩
theorem om_iso_succ {f g : Nat → Int32} {k : Nat} (h : om_iso f g k) : om_iso f g (k + 1) ↔ ∀ j, j < k → ((f j < f k ↔ g j < g k) ∧ (f k < f j ↔ g k < g j)) := by
  constructor
  · intro q j hj
    exact ⟨q j k (by omega) (by omega), q k j (by omega) (by omega)⟩
  · intro q i j hi hj
    rcases Nat.lt_or_ge i k with a | a <;> rcases Nat.lt_or_ge j k with b | b
    · exact h i j a b
    · have e : j = k := by omega
      subst e
      exact (q i a).1
    · have e : i = k := by omega
      subst e
      exact (q j b).2
    · have e : i = k := by omega
      have e2 : j = k := by omega
      subst e; subst e2
      exact ⟨fun z => absurd z (om_irr _), fun z => absurd z (om_irr _)⟩
theorem om_b_eq {a b : Bool} (h : a = true ↔ b = true) : a = b := by
  cases a <;> cases b <;> simp at h ⊢
theorem om_b_f {a : Bool} (h : ¬ a = true) : a = false := by
  cases a <;> simp at h ⊢
theorem om_ap_congr {f g f2 g2 : Nat → Int32} {k : Nat} (hf : ∀ i, i < k → f i = f2 i) (hg : ∀ i, i < k → g i = g2 i) : om_ap f g k = om_ap f2 g2 k := by
  refine om_b_eq ?_
  rw [om_ap_iso, om_ap_iso]
  exact ⟨fun h => om_iso_congr h hf hg, fun h => om_iso_congr h (fun i hi => (hf i hi).symm) (fun i hi => (hg i hi).symm)⟩
theorem om_ap_symm {f g : Nat → Int32} {k : Nat} : om_ap f g k = om_ap g f k := by
  refine om_b_eq ?_
  rw [om_ap_iso, om_ap_iso]
  exact ⟨om_iso_symm, om_iso_symm⟩
/-- the greatest b ≤ m, b > 0, with f b; else 0 -/
def om_lg (f : Nat → Bool) : Nat → Nat
  | 0 => 0
  | m + 1 => if f (m + 1) = true then m + 1 else om_lg f m
theorem om_lg_spec (f : Nat → Bool) (m : Nat) : om_lg f m ≤ m ∧ (0 < om_lg f m → f (om_lg f m) = true) ∧ ∀ b, om_lg f m < b → b ≤ m → f b = false := by
  induction m with
  | zero => exact ⟨Nat.le_refl 0, fun h => absurd h (Nat.not_lt_zero 0), fun b h1 h2 => absurd h1 (by show ¬ 0 < b; omega)⟩
  | succ m ih =>
    by_cases h : f (m + 1) = true
    · have e : om_lg f (m + 1) = m + 1 := by show (if f (m + 1) = true then m + 1 else om_lg f m) = m + 1; rw [if_pos h]
      rw [e]
      exact ⟨Nat.le_refl _, fun _ => h, fun b h1 h2 => absurd h1 (by omega)⟩
    · have e : om_lg f (m + 1) = om_lg f m := by show (if f (m + 1) = true then m + 1 else om_lg f m) = om_lg f m; rw [if_neg h]
      rw [e]
      refine ⟨by omega, ih.2.1, fun b h1 h2 => ?_⟩
      rcases Nat.lt_or_ge b (m + 1) with q | q
      · exact ih.2.2 b h1 (by omega)
      · have e2 : b = m + 1 := by omega
        subst e2
        exact om_b_f h
theorem om_lg_eq {f : Nat → Bool} {m b : Nat} (h1 : b ≤ m) (h2 : 0 < b → f b = true) (h3 : ∀ c, b < c → c ≤ m → f c = false) : om_lg f m = b := by
  obtain ⟨s1, s2, s3⟩ := om_lg_spec f m
  rcases Nat.lt_trichotomy (om_lg f m) b with q | q | q
  · have a := s3 b q h1
    rw [h2 (by omega)] at a
    cases a
  · exact q
  · have a := h3 _ q s1
    rw [s2 (by omega)] at a
    cases a
theorem om_lg_congr {f g : Nat → Bool} {m : Nat} (h : ∀ b, 0 < b → b ≤ m → f b = g b) : om_lg f m = om_lg g m := by
  obtain ⟨s1, s2, s3⟩ := om_lg_spec g m
  refine om_lg_eq s1 (fun q => ?_) (fun c h1 h2 => ?_)
  · rw [h _ q s1]; exact s2 q
  · rw [h c (by omega) h2]; exact s3 c h1 h2
/-- the longest beginning of the pattern (of length at most k) that ends at p in the text -/
def om_mt (tx pt : Nat → Int32) (k p : Nat) : Nat := om_lg (fun m => decide (m ≤ p + 1) && om_ap (fun i => tx (p + 1 - m + i)) pt m) k
/-- the widest proper border of the pattern's first K values -/
def om_wd (pt : Nat → Int32) (K : Nat) : Nat := om_lg (fun b => om_ap pt (fun i => pt (K - b + i)) b) (K - 1)
theorem om_wd_le (pt : Nat → Int32) (K : Nat) : om_wd pt K ≤ K - 1 := (om_lg_spec _ _).1
theorem om_mt_le (tx pt : Nat → Int32) (k p : Nat) : om_mt tx pt k p ≤ k := (om_lg_spec _ _).1
theorem om_wd_iso (pt : Nat → Int32) (K : Nat) : om_iso pt (fun i => pt (K - om_wd pt K + i)) (om_wd pt K) := by
  rcases Nat.eq_zero_or_pos (om_wd pt K) with q | q
  · rw [q]; exact om_iso_0
  · exact om_ap_iso.mp ((om_lg_spec (fun b => om_ap pt (fun i => pt (K - b + i)) b) (K - 1)).2.1 q)
theorem om_wd_max {pt : Nat → Int32} {K b : Nat} (h1 : om_wd pt K < b) (h2 : b < K) : ¬ om_iso pt (fun i => pt (K - b + i)) b := by
  intro z
  have a := (om_lg_spec (fun b => om_ap pt (fun i => pt (K - b + i)) b) (K - 1)).2.2 b h1 (by omega)
  have z := om_ap_iso.mpr z
  rw [z] at a
  cases a
theorem om_mt_iso (tx pt : Nat → Int32) (k p : Nat) : om_mt tx pt k p ≤ p + 1 ∧ om_iso pt (fun i => tx (p + 1 - om_mt tx pt k p + i)) (om_mt tx pt k p) := by
  rcases Nat.eq_zero_or_pos (om_mt tx pt k p) with q | q
  · rw [q]; exact ⟨Nat.zero_le _, om_iso_0⟩
  · have a := (om_lg_spec (fun m => decide (m ≤ p + 1) && om_ap (fun i => tx (p + 1 - m + i)) pt m) k).2.1 q
    rw [Bool.and_eq_true, decide_eq_true_eq] at a
    exact ⟨a.1, om_iso_symm (om_ap_iso.mp a.2)⟩
theorem om_mt_max {tx pt : Nat → Int32} {k p b : Nat} (h1 : om_mt tx pt k p < b) (h2 : b ≤ k) (h3 : b ≤ p + 1) : ¬ om_iso pt (fun i => tx (p + 1 - b + i)) b := by
  intro z
  have a := (om_lg_spec (fun m => decide (m ≤ p + 1) && om_ap (fun i => tx (p + 1 - m + i)) pt m) k).2.2 b h1 h2
  have z := om_ap_iso.mpr (om_iso_symm z)
  rw [z, decide_eq_true h3] at a
  cases a
/-! the nearest neighbours -/
def om_bel (P : Nat → Int32) (i : Nat) (b : Int32) : Prop := (b = -1 ∧ ∀ j, j < i → ¬ P j ≤ P i) ∨ ∃ q, q < i ∧ b = nI q ∧ P q ≤ P i ∧ ∀ j, j < i → P j ≤ P i → P j ≤ P q
def om_abo (P : Nat → Int32) (i : Nat) (b : Int32) : Prop := (b = -1 ∧ ∀ j, j < i → ¬ P i ≤ P j) ∨ ∃ q, q < i ∧ b = nI q ∧ P i ≤ P q ∧ ∀ j, j < i → P i ≤ P j → P q ≤ P j
def om_cmp (P : Nat → Int32) (K : Nat) (b a v lo up : Int32) : Bool := if ¬ b = -1 ∧ P b.toNatClampNeg = P K then decide (lo = v) else (decide (b = -1) || decide (lo < v)) && (decide (a = -1) || decide (v < up))
def om_fit (P G : Nat → Int32) (K : Nat) (b a : Int32) : Bool := om_cmp P K b a (G K) (if b = -1 then nI 0 else G b.toNatClampNeg) (if a = -1 then nI 0 else G a.toNatClampNeg)
theorem om_fit_iff {P G : Nat → Int32} {K : Nat} {b a : Int32} (hK : K < 2 ^ 31) (hb : om_bel P K b) (ha : om_abo P K a) (hi : om_iso P G K) : om_fit P G K b a = true ↔ om_iso P G (K + 1) := by
  rw [om_iso_succ hi]
  unfold om_fit om_cmp
  unfold om_iso at hi
  simp only [Int32.lt_iff_toInt_lt] at hi
  rcases hb with ⟨rfl, hb⟩ | ⟨q, hq, rfl, hq1, hq2⟩
  · rcases ha with ⟨rfl, ha⟩ | ⟨r, hr, rfl, hr1, hr2⟩
    · simp only [not_true_eq_false, false_and, if_false, decide_true, Bool.true_or, Bool.and_self, true_iff]
      intro j hj
      have a1 := hb j hj
      have a2 := ha j hj
      rw [Int32.le_iff_toInt_le] at a1 a2
      omega
    · have hr0 := om_m1 (q := r) (by omega)
      simp only [not_true_eq_false, false_and, if_false, decide_true, Bool.true_or, Bool.true_and, hr0, decide_false, Bool.false_or, decide_eq_true_eq, nI_clamp (show r < 2 ^ 31 by omega), Int32.lt_iff_toInt_lt]
      constructor
      · intro h j hj
        have a1 := hb j hj
        have a2 := hr2 j hj
        have a3 := hi j r hj hr
        rw [Int32.le_iff_toInt_le] at a1
        rw [Int32.le_iff_toInt_le, Int32.le_iff_toInt_le] at a2
        omega
      · intro h
        have a1 := hb r hr
        have a2 := h r hr
        rw [Int32.le_iff_toInt_le] at a1
        omega
  · have hq0 := om_m1 (q := q) (by omega)
    rw [Int32.le_iff_toInt_le] at hq1
    rcases ha with ⟨rfl, ha⟩ | ⟨r, hr, rfl, hr1, hr2⟩
    · simp only [hq0, not_false_eq_true, true_and, nI_clamp (show q < 2 ^ 31 by omega), if_false, decide_true, decide_false, Bool.true_or, Bool.and_true, Bool.false_or, Int32.lt_iff_toInt_lt]
      by_cases he : P q = P K
      · rw [if_pos he, decide_eq_true_eq, ← Int32.toInt_inj]
        rw [← Int32.toInt_inj] at he
        constructor
        · intro h j hj
          have a3 := hi j q hj hq
          have a4 := hi q j hq hj
          omega
        · intro h
          have a2 := h q hq
          omega
      · rw [if_neg he, decide_eq_true_eq]
        rw [← Int32.toInt_inj] at he
        constructor
        · intro h j hj
          have a1 := ha j hj
          have a2 := hq2 j hj
          have a3 := hi q j hq hj
          rw [Int32.le_iff_toInt_le] at a1
          rw [Int32.le_iff_toInt_le, Int32.le_iff_toInt_le] at a2
          omega
        · intro h
          have a2 := h q hq
          omega
    · have hr0 := om_m1 (q := r) (by omega)
      rw [Int32.le_iff_toInt_le] at hr1
      simp only [hq0, hr0, not_false_eq_true, true_and, nI_clamp (show q < 2 ^ 31 by omega), nI_clamp (show r < 2 ^ 31 by omega), if_false, decide_false, Bool.false_or, Int32.lt_iff_toInt_lt]
      by_cases he : P q = P K
      · rw [if_pos he, decide_eq_true_eq, ← Int32.toInt_inj]
        rw [← Int32.toInt_inj] at he
        constructor
        · intro h j hj
          have a3 := hi j q hj hq
          have a4 := hi q j hq hj
          omega
        · intro h
          have a2 := h q hq
          omega
      · rw [if_neg he, Bool.and_eq_true, decide_eq_true_eq, decide_eq_true_eq]
        rw [← Int32.toInt_inj] at he
        have b1 := hq2 r hr
        rw [Int32.le_iff_toInt_le, Int32.le_iff_toInt_le] at b1
        constructor
        · intro h j hj
          have a1 := hq2 j hj
          have a2 := hr2 j hj
          have a3 := hi q j hq hj
          have a4 := hi j r hj hr
          rw [Int32.le_iff_toInt_le, Int32.le_iff_toInt_le] at a1 a2
          omega
        · intro h
          have a2 := h q hq
          have a3 := h r hr
          omega
/-! the search for the next candidate -/
def om_inv (P T : Nat → Int32) (M p K : Nat) : Prop := K < M ∧ K ≤ p ∧ om_iso P (fun i => T (p - K + i)) K ∧ ∀ m, K < m → m < M → m ≤ p → ¬ om_iso P (fun i => T (p - m + i)) (m + 1)
theorem om_sub {P T : Nat → Int32} {p K m : Nat} (h : om_iso P (fun i => T (p - K + i)) K) (hK : K ≤ p) (hm : m ≤ K) : om_iso (fun i => P (K - m + i)) (fun i => T (p - m + i)) m := by
  refine om_iso_congr (om_iso_shift h (K - m) m (by omega)) (fun _ _ => rfl) (fun i hi => ?_)
  show T (p - K + (K - m + i)) = T (p - m + i)
  congr 1
  omega
theorem om_inv_next {P T : Nat → Int32} {M p K : Nat} (h : om_inv P T M p K) (hf : ¬ om_iso P (fun i => T (p - K + i)) (K + 1)) (h0 : 0 < K) : om_inv P T M p (om_wd P K) := by
  obtain ⟨h1, h2, h3, h4⟩ := h
  have hw := om_wd_le P K
  refine ⟨by omega, by omega, om_iso_trans (om_wd_iso P K) (om_sub h3 h2 (by omega)), fun m m1 m2 m3 z => ?_⟩
  rcases Nat.lt_trichotomy m K with q | q | q
  · exact om_wd_max m1 q (om_iso_trans (om_iso_mono z (by omega)) (om_iso_symm (om_sub h3 h2 (by omega))))
  · subst q
    exact hf z
  · exact h4 m q m2 m3 z
theorem om_inv_mt {tx pt : Nat → Int32} {k p K : Nat} (h : om_inv pt tx k p K) (hf : om_iso pt (fun i => tx (p - K + i)) (K + 1)) : om_mt tx pt k p = K + 1 := by
  obtain ⟨h1, h2, h3, h4⟩ := h
  refine om_lg_eq (by omega) (fun _ => ?_) (fun c c1 c2 => om_b_f fun z => ?_)
  · rw [Bool.and_eq_true, decide_eq_true_eq]
    refine ⟨by omega, om_ap_iso.mpr (om_iso_symm (om_iso_congr hf (fun _ _ => rfl) (fun i _ => ?_)))⟩
    show tx (p - K + i) = tx (p + 1 - (K + 1) + i)
    congr 1
    omega
  · rw [Bool.and_eq_true, decide_eq_true_eq] at z
    refine h4 (c - 1) (by omega) (by omega) (by omega) ?_
    rw [show c - 1 + 1 = c by omega]
    refine om_iso_congr (om_iso_symm (om_ap_iso.mp z.2)) (fun _ _ => rfl) (fun i _ => ?_)
    show tx (p + 1 - c + i) = tx (p - (c - 1) + i)
    congr 1
    omega
theorem om_inv_wd {pt : Nat → Int32} {i K : Nat} (h : om_inv pt pt i i K) (hf : om_iso pt (fun j => pt (i - K + j)) (K + 1)) : om_wd pt (i + 1) = K + 1 := by
  obtain ⟨h1, h2, h3, h4⟩ := h
  refine om_lg_eq (by omega) (fun _ => ?_) (fun c c1 c2 => om_b_f fun z => ?_)
  · refine om_ap_iso.mpr (om_iso_congr hf (fun _ _ => rfl) (fun j _ => ?_))
    show pt (i - K + j) = pt (i + 1 - (K + 1) + j)
    congr 1
    omega
  · refine h4 (c - 1) (by omega) (by omega) (by omega) ?_
    rw [show c - 1 + 1 = c by omega]
    refine om_iso_congr (om_ap_iso.mp z) (fun _ _ => rfl) (fun j _ => ?_)
    show pt (i + 1 - c + j) = pt (i - (c - 1) + j)
    congr 1
    omega
theorem om_wd_1 (pt : Nat → Int32) : om_wd pt 1 = 0 := rfl
theorem om_inv_wd0 {pt : Nat → Int32} {i : Nat} (hi : 0 < i) : om_inv pt pt i i (om_wd pt i) := by
  have hw := om_wd_le pt i
  exact ⟨by omega, by omega, om_wd_iso pt i, fun m m1 m2 _ z => om_wd_max m1 m2 (om_iso_mono z (by omega))⟩
theorem om_inv_0 {tx pt : Nat → Int32} {k : Nat} (hk : 0 < k) : om_inv pt tx k 0 0 := ⟨hk, Nat.le_refl 0, om_iso_0, fun m m1 _ m3 => absurd m1 (by omega)⟩
theorem om_inv_mt0 {tx pt : Nat → Int32} {k p : Nat} (h : om_mt tx pt k p < k) : om_inv pt tx k (p + 1) (om_mt tx pt k p) := by
  obtain ⟨a1, a2⟩ := om_mt_iso tx pt k p
  exact ⟨h, a1, a2, fun m m1 m2 m3 z => om_mt_max m1 (by omega) m3 (om_iso_mono z (by omega))⟩
theorem om_inv_mtk {tx pt : Nat → Int32} {k p : Nat} (hk : 0 < k) (h : om_mt tx pt k p = k) : om_inv pt tx k (p + 1) (om_wd pt k) := by
  obtain ⟨a1, a2⟩ := om_mt_iso tx pt k p
  rw [h] at a1 a2
  have hw := om_wd_le pt k
  refine ⟨by omega, by omega, om_iso_trans (om_wd_iso pt k) (om_sub a2 a1 (by omega)), fun m m1 m2 m3 z => ?_⟩
  exact om_wd_max m1 m2 (om_iso_trans (om_iso_mono z (by omega)) (om_iso_symm (om_sub a2 a1 (by omega))))
/-- what the tables of the pattern hold once they are made -/
def om_cod (pt : Nat → Int32) (k : Nat) (bl ab fl : Nat → Int32) : Prop := (∀ i, i < k → om_bel pt i (bl i) ∧ om_abo pt i (ab i)) ∧ fl 0 = -1 ∧ ∀ i, 0 < i → i ≤ k → fl i = nI (om_wd pt i)
/-! occurrences -/
def om_oc (tx pt : Nat → Int32) (n k q : Nat) : Bool := decide (0 < k) && (decide (q + k ≤ n) && om_ap (fun i => tx (q + i)) pt k)
def om_ed (tx pt : Nat → Int32) (k p : Nat) : Bool := decide (0 < k) && decide (om_mt tx pt k p = k)
theorem om_oc_iff {tx pt : Nat → Int32} {n k q : Nat} : om_oc tx pt n k q = true ↔ 0 < k ∧ q + k ≤ n ∧ om_ap (fun i => tx (q + i)) pt k = true := by
  simp only [om_oc, Bool.and_eq_true, decide_eq_true_eq]
theorem om_ed_iff {tx pt : Nat → Int32} {k p : Nat} : om_ed tx pt k p = true ↔ 0 < k ∧ k ≤ p + 1 ∧ om_ap (fun i => tx (p + 1 - k + i)) pt k = true := by
  simp only [om_ed, Bool.and_eq_true, decide_eq_true_eq]
  constructor
  · rintro ⟨h1, h2⟩
    obtain ⟨a1, a2⟩ := om_mt_iso tx pt k p
    rw [h2] at a1 a2
    exact ⟨h1, a1, om_ap_iso.mpr (om_iso_symm a2)⟩
  · rintro ⟨h1, h2, h3⟩
    refine ⟨h1, om_lg_eq (Nat.le_refl _) (fun _ => ?_) (fun c c1 c2 => absurd c1 (by omega))⟩
    rw [Bool.and_eq_true, decide_eq_true_eq]
    exact ⟨h2, h3⟩
theorem om_ed_oc {tx pt : Nat → Int32} {n k p : Nat} (hp : p < n) (h : k ≤ p + 1) : om_ed tx pt k p = om_oc tx pt n k (p + 1 - k) := by
  refine om_b_eq ?_
  rw [om_ed_iff, om_oc_iff]
  constructor
  · rintro ⟨h1, h2, h3⟩
    exact ⟨h1, by omega, h3⟩
  · rintro ⟨h1, h2, h3⟩
    exact ⟨h1, h, h3⟩
theorem om_ed_f {tx pt : Nat → Int32} {k p : Nat} (h : p + 1 < k) : om_ed tx pt k p = false := om_b_f fun z => by
  have := (om_ed_iff.mp z).2.1
  omega
theorem om_oc_f {tx pt : Nat → Int32} {n k q : Nat} (h : n < q + k) : om_oc tx pt n k q = false := om_b_f fun z => by
  have := (om_oc_iff.mp z).2.1
  omega
def om_cnt (f : Nat → Bool) : Nat → Nat
  | 0 => 0
  | n + 1 => om_cnt f n + (if f n = true then 1 else 0)
theorem om_cnt_t {f : Nat → Bool} {n : Nat} (h : f n = true) : om_cnt f (n + 1) = om_cnt f n + 1 := by
  show om_cnt f n + (if f n = true then 1 else 0) = _
  rw [if_pos h]
theorem om_cnt_f {f : Nat → Bool} {n : Nat} (h : f n = false) : om_cnt f (n + 1) = om_cnt f n := by
  show om_cnt f n + (if f n = true then 1 else 0) = _
  rw [if_neg (by rw [h]; decide)]
  rfl
theorem om_cnt_le (f : Nat → Bool) (n : Nat) : om_cnt f n ≤ n := by
  induction n with
  | zero => exact Nat.le_refl 0
  | succ n ih =>
    cases h : f n with
    | true => rw [om_cnt_t h]; omega
    | false => rw [om_cnt_f h]; omega
theorem om_cnt_mono (f : Nat → Bool) {a : Nat} : ∀ b, a ≤ b → om_cnt f a ≤ om_cnt f b := by
  intro b
  induction b with
  | zero => intro h; rw [show a = 0 by omega]; exact Nat.le_refl _
  | succ b ih =>
    intro h
    rcases Nat.lt_or_ge a (b + 1) with q | q
    · have := ih (by omega)
      cases hb : f b with
      | true => rw [om_cnt_t hb]; omega
      | false => rw [om_cnt_f hb]; omega
    · rw [show a = b + 1 by omega]; exact Nat.le_refl _
theorem om_cnt_lt {f : Nat → Bool} {a b : Nat} (h : a < b) (ha : f a = true) : om_cnt f a < om_cnt f b := by
  have h1 := om_cnt_mono f (a := a + 1) b h
  rw [om_cnt_t ha] at h1
  omega
theorem om_cnt_ed {tx pt : Nat → Int32} {n k : Nat} (hk : 0 < k) : ∀ p, p ≤ n → om_cnt (om_ed tx pt k) p = om_cnt (om_oc tx pt n k) (p + 1 - k) := by
  intro p
  induction p with
  | zero => intro _; rw [show 0 + 1 - k = 0 by omega]; rfl
  | succ p ih =>
    intro hp
    have ih := ih (by omega)
    rcases Nat.lt_or_ge (p + 1) k with q | q
    · rw [om_cnt_f (om_ed_f q), ih, show p + 1 - k = 0 by omega, show p + 1 + 1 - k = 0 by omega]
    · rw [show p + 1 + 1 - k = (p + 1 - k) + 1 by omega]
      have e := om_ed_oc (tx := tx) (pt := pt) (n := n) (k := k) (p := p) (by omega) q
      cases hq : om_ed tx pt k p with
      | true =>
        rw [hq] at e
        rw [om_cnt_t hq, om_cnt_t e.symm, ih]
      | false =>
        rw [hq] at e
        rw [om_cnt_f hq, om_cnt_f e.symm, ih]
theorem om_cnt_oc {tx pt : Nat → Int32} {n k : Nat} : ∀ q, n + 1 - k ≤ q → om_cnt (om_oc tx pt n k) q = om_cnt (om_oc tx pt n k) (n + 1 - k) := by
  intro q
  induction q with
  | zero => intro h; rw [show n + 1 - k = 0 by omega]
  | succ q ih =>
    intro h
    rcases Nat.lt_or_ge (n + 1 - k) (q + 1) with z | z
    · rw [om_cnt_f (om_oc_f (by omega)), ih (by omega)]
    · rw [show n + 1 - k = q + 1 by omega]
theorem om_cnt_no {f : Nat → Bool} {n : Nat} (h : ∀ q, q < n → f q = false) : om_cnt f n = 0 := by
  induction n with
  | zero => rfl
  | succ n ih => rw [om_cnt_f (h n (by omega)), ih (fun q hq => h q (by omega))]
theorem om_occurrences (tx pt : Nat → Int32) (n k : Nat) : om_cnt (om_ed tx pt k) n = om_cnt (om_oc tx pt n k) n := by
  rcases Nat.eq_zero_or_pos k with q | q
  · subst q
    rw [om_cnt_no (fun q _ => om_b_f fun z => absurd (om_ed_iff.mp z).1 (by omega)), om_cnt_no (fun q _ => om_b_f fun z => absurd (om_oc_iff.mp z).1 (by omega))]
  · rw [om_cnt_ed q n (Nat.le_refl n), om_cnt_oc n (by omega)]
/-- the place of the i-th occurrence -/
def om_nth (f : Nat → Bool) (n : Nat) (i r : Int32) : Prop := (∃ q, q < n ∧ f q = true ∧ i = nI (om_cnt f q) ∧ r = nI q) ∨ (r = -1 ∧ ∀ q, q < n → f q = true → ¬ i = nI (om_cnt f q))
theorem om_nth_1 {f : Nat → Bool} {n : Nat} {i r r2 : Int32} (hn : n < 2 ^ 31) (h : om_nth f n i r) (h2 : om_nth f n i r2) : r = r2 := by
  rcases h with ⟨q, a1, a2, a3, a4⟩ | ⟨a1, a2⟩
  · rcases h2 with ⟨u, b1, b2, b3, b4⟩ | ⟨b1, b2⟩
    · rw [a3] at b3
      have c1 := om_cnt_le f q
      have c2 := om_cnt_le f u
      have e := (nI_eq (by omega) (by omega)).mp b3
      rcases Nat.lt_trichotomy q u with z | z | z
      · have := om_cnt_lt z a2; omega
      · rw [a4, b4, z]
      · have := om_cnt_lt z b2; omega
    · exact absurd a3 (b2 q a1 a2)
  · rcases h2 with ⟨u, b1, b2, b3, b4⟩ | ⟨b1, b2⟩
    · exact absurd b3 (a2 u b1 b2)
    · rw [a1, b1]
theorem om_nth_ed {tx pt : Nat → Int32} {n k : Nat} {i r : Int32} (h : (∃ p, p < n ∧ om_ed tx pt k p = true ∧ i = nI (om_cnt (om_ed tx pt k) p) ∧ r = nI (p + 1 - k)) ∨ (r = -1 ∧ ∀ p, p < n → om_ed tx pt k p = true → ¬ i = nI (om_cnt (om_ed tx pt k) p))) : om_nth (om_oc tx pt n k) n i r := by
  rcases h with ⟨p, a1, a2, a3, a4⟩ | ⟨a1, a2⟩
  · have a5 := om_ed_iff.mp a2
    refine Or.inl ⟨p + 1 - k, by omega, ?_, ?_, a4⟩
    · rw [← om_ed_oc a1 a5.2.1]; exact a2
    · rw [a3, om_cnt_ed (n := n) a5.1 p (by omega)]
  · refine Or.inr ⟨a1, fun q h1 h2 h3 => ?_⟩
    have a5 := om_oc_iff.mp h2
    refine a2 (q + k - 1) (by omega) ?_ ?_
    · rw [om_ed_oc (n := n) (by omega) (by omega), show q + k - 1 + 1 - k = q by omega]; exact h2
    · rw [om_cnt_ed (n := n) a5.1 (q + k - 1) (by omega), show q + k - 1 + 1 - k = q by omega]; exact h3
/-- the first occurrence from a place on -/
def om_nx (f : Nat → Bool) (n : Nat) (i r : Int32) : Prop := (∃ q, q < n ∧ f q = true ∧ i ≤ nI q ∧ r = nI q ∧ ∀ u, u < q → i ≤ nI u → f u = false) ∨ (r = -1 ∧ ∀ q, q < n → i ≤ nI q → f q = false)
theorem om_nx_1 {f : Nat → Bool} {n : Nat} {i r r2 : Int32} (h : om_nx f n i r) (h2 : om_nx f n i r2) : r = r2 := by
  rcases h with ⟨q, a1, a2, a3, a4, a5⟩ | ⟨a1, a2⟩
  · rcases h2 with ⟨u, b1, b2, b3, b4, b5⟩ | ⟨b1, b2⟩
    · rcases Nat.lt_trichotomy q u with z | z | z
      · have := b5 q z a3; rw [a2] at this; cases this
      · rw [a4, b4, z]
      · have := a5 u z b3; rw [b2] at this; cases this
    · have := b2 q a1 a3; rw [a2] at this; cases this
  · rcases h2 with ⟨u, b1, b2, b3, b4, b5⟩ | ⟨b1, b2⟩
    · have := a2 u b1 b3; rw [b2] at this; cases this
    · rw [a1, b1]
/-! the greedy choice -/
def om_gs (f : Nat → Bool) (k : Nat) : Nat → Nat × Nat
  | 0 => (0, 0)
  | p + 1 => if f p = true ∧ (om_gs f k p).2 ≤ p + 1 - k then ((om_gs f k p).1 + 1, p + 1) else om_gs f k p
theorem om_gs_t {f : Nat → Bool} {k p : Nat} (h : f p = true) (h2 : (om_gs f k p).2 ≤ p + 1 - k) : om_gs f k (p + 1) = ((om_gs f k p).1 + 1, p + 1) := by
  show (if f p = true ∧ (om_gs f k p).2 ≤ p + 1 - k then ((om_gs f k p).1 + 1, p + 1) else om_gs f k p) = _
  rw [if_pos ⟨h, h2⟩]
theorem om_gs_f {f : Nat → Bool} {k p : Nat} (h : ¬ (f p = true ∧ (om_gs f k p).2 ≤ p + 1 - k)) : om_gs f k (p + 1) = om_gs f k p := by
  show (if f p = true ∧ (om_gs f k p).2 ≤ p + 1 - k then ((om_gs f k p).1 + 1, p + 1) else om_gs f k p) = _
  rw [if_neg h]
theorem om_gs_le (f : Nat → Bool) (k p : Nat) : (om_gs f k p).1 ≤ p ∧ (om_gs f k p).2 ≤ p := by
  induction p with
  | zero => exact ⟨Nat.le_refl 0, Nat.le_refl 0⟩
  | succ p ih =>
    by_cases h : f p = true ∧ (om_gs f k p).2 ≤ p + 1 - k
    · rw [om_gs_t h.1 h.2]; exact ⟨by dsimp only; omega, Nat.le_refl _⟩
    · rw [om_gs_f h]; omega
theorem om_gs_congr {f g : Nat → Bool} {k n : Nat} (h : ∀ p, p < n → f p = g p) : om_gs f k n = om_gs g k n := by
  induction n with
  | zero => rfl
  | succ n ih =>
    have ih := ih (fun p hp => h p (by omega))
    show (if f n = true ∧ (om_gs f k n).2 ≤ n + 1 - k then ((om_gs f k n).1 + 1, n + 1) else om_gs f k n) = (if g n = true ∧ (om_gs g k n).2 ≤ n + 1 - k then ((om_gs g k n).1 + 1, n + 1) else om_gs g k n)
    rw [ih, h n (by omega)]
/-- the best number of occurrences apart from a place on, as a table says it -/
def om_bs (f : Nat → Bool) (n k : Nat) (B : Nat → Nat) (lo : Nat) : Prop := (∀ q, n ≤ q → B q = 0) ∧ (∀ q, lo ≤ q → q < n → f q = false → B q = B (q + 1)) ∧ (∀ q, lo ≤ q → q < n → f q = true → (B (q + 1) < 1 + B (q + k) → B q = 1 + B (q + k)) ∧ (1 + B (q + k) ≤ B (q + 1) → B q = B (q + 1)))
theorem om_bs_anti {f : Nat → Bool} {n k : Nat} {B : Nat → Nat} (h : om_bs f n k B 0) (q : Nat) : B (q + 1) ≤ B q := by
  obtain ⟨h1, h2, h3⟩ := h
  rcases Nat.lt_or_ge q n with z | z
  · cases hq : f q with
    | true =>
      have a := h3 q (Nat.zero_le _) z hq
      rcases Nat.lt_or_ge (B (q + 1)) (1 + B (q + k)) with y | y
      · have := a.1 y; omega
      · have := a.2 y; omega
    | false => rw [h2 q (Nat.zero_le _) z hq]; exact Nat.le_refl _
  · rw [h1 (q + 1) (by omega)]; exact Nat.zero_le _
theorem om_bs_k {f : Nat → Bool} {n k : Nat} {B : Nat → Nat} (h : om_bs f n k B 0) : ∀ (t q : Nat), n ≤ q + t → B q ≤ 1 + B (q + k) := by
  intro t
  induction t with
  | zero => intro q hq; rw [h.1 q (by omega)]; omega
  | succ t ih =>
    intro q hq
    rcases Nat.lt_or_ge q n with z | z
    · have i1 := ih (q + 1) (by omega)
      have i2 := om_bs_anti h (q + k)
      rw [show q + 1 + k = q + k + 1 by omega] at i1
      cases hq : f q with
      | true =>
        have a := h.2.2 q (Nat.zero_le _) z hq
        rcases Nat.lt_or_ge (B (q + 1)) (1 + B (q + k)) with y | y
        · have := a.1 y; omega
        · have := a.2 y; omega
      | false => rw [h.2.1 q (Nat.zero_le _) z hq]; omega
    · rw [h.1 q z]; omega
theorem om_bs_t {f : Nat → Bool} {n k : Nat} {B : Nat → Nat} (h : om_bs f n k B 0) {q : Nat} (hq : q < n) (hf : f q = true) : B q = 1 + B (q + k) := by
  have a := h.2.2 q (Nat.zero_le _) hq hf
  have i1 := om_bs_k h n (q + 1) (by omega)
  have i2 := om_bs_anti h (q + k)
  rw [show q + 1 + k = q + k + 1 by omega] at i1
  rcases Nat.lt_or_ge (B (q + 1)) (1 + B (q + k)) with y | y
  · exact a.1 y
  · have := a.2 y; omega
theorem om_bs_0 {tx pt : Nat → Int32} {n k : Nat} {B : Nat → Nat} (h : om_bs (om_oc tx pt n k) n k B 0) : ∀ (t q : Nat), n ≤ q + t → n < q + k → B q = 0 := by
  intro t
  induction t with
  | zero => intro q hq _; exact h.1 q (by omega)
  | succ t ih =>
    intro q hq hk
    rcases Nat.lt_or_ge q n with z | z
    · rw [h.2.1 q (Nat.zero_le _) z (om_oc_f hk)]; exact ih (q + 1) (by omega) (by omega)
    · exact h.1 q z
theorem om_greedy {tx pt : Nat → Int32} {n k : Nat} {B : Nat → Nat} (hk : 0 < k) (h : om_bs (om_oc tx pt n k) n k B 0) : ∀ p, p ≤ n → (om_gs (om_ed tx pt k) k p).1 + B (max (om_gs (om_ed tx pt k) k p).2 (p + 1 - k)) = B 0 := by
  intro p
  induction p with
  | zero => intro _; show 0 + B (max 0 (0 + 1 - k)) = B 0; rw [show max 0 (0 + 1 - k) = 0 by omega]; omega
  | succ p ih =>
    intro hp
    have ih := ih (by omega)
    have hle := om_gs_le (om_ed tx pt k) k p
    rcases Nat.lt_or_ge (p + 1) k with q | q
    · rw [om_gs_f (fun z => by rw [om_ed_f q] at z; cases z.1)]
      rw [show p + 1 - k = 0 by omega] at ih
      rw [show p + 1 + 1 - k = 0 by omega]
      exact ih
    · have e := om_ed_oc (tx := tx) (pt := pt) (n := n) (k := k) (p := p) (by omega) q
      cases hq : om_ed tx pt k p with
      | true =>
        rw [hq] at e
        rcases Nat.lt_or_ge (p + 1 - k) (om_gs (om_ed tx pt k) k p).2 with z | z
        · rw [om_gs_f (fun y => absurd y.2 (by omega))]
          rw [show max (om_gs (om_ed tx pt k) k p).2 (p + 1 - k) = (om_gs (om_ed tx pt k) k p).2 by omega] at ih
          rw [show max (om_gs (om_ed tx pt k) k p).2 (p + 1 + 1 - k) = (om_gs (om_ed tx pt k) k p).2 by omega]
          exact ih
        · rw [om_gs_t hq z]
          rw [show max (om_gs (om_ed tx pt k) k p).2 (p + 1 - k) = p + 1 - k by omega, om_bs_t h (by omega) e.symm, show p + 1 - k + k = p + 1 by omega] at ih
          dsimp only
          rw [show max (p + 1) (p + 1 + 1 - k) = p + 1 by omega]
          omega
      | false =>
        rw [hq] at e
        rw [om_gs_f (fun y => by rw [hq] at y; cases y.1)]
        rcases Nat.lt_or_ge (p + 1 - k) (om_gs (om_ed tx pt k) k p).2 with z | z
        · rw [show max (om_gs (om_ed tx pt k) k p).2 (p + 1 - k) = (om_gs (om_ed tx pt k) k p).2 by omega] at ih
          rw [show max (om_gs (om_ed tx pt k) k p).2 (p + 1 + 1 - k) = (om_gs (om_ed tx pt k) k p).2 by omega]
          exact ih
        · rw [show max (om_gs (om_ed tx pt k) k p).2 (p + 1 - k) = p + 1 - k by omega, h.2.1 (p + 1 - k) (Nat.zero_le _) (by omega) e.symm] at ih
          rw [show max (om_gs (om_ed tx pt k) k p).2 (p + 1 + 1 - k) = p + 1 - k + 1 by omega]
          exact ih
theorem om_disjoint {tx pt : Nat → Int32} {n k : Nat} {B : Nat → Nat} (h : om_bs (om_oc tx pt n k) n k B 0) : (om_gs (om_ed tx pt k) k n).1 = B 0 := by
  rcases Nat.eq_zero_or_pos k with q | q
  · subst q
    have z : ∀ p, p ≤ n → (om_gs (om_ed tx pt 0) 0 p).1 = 0 := by
      intro p
      induction p with
      | zero => intro _; rfl
      | succ p ih => intro hp; rw [om_gs_f (fun y => absurd (om_ed_iff.mp y.1).1 (by omega))]; exact ih (by omega)
    have y : ∀ (t q : Nat), n ≤ q + t → B q = 0 := by
      intro t
      induction t with
      | zero => intro q hq; exact h.1 q (by omega)
      | succ t ih =>
        intro q hq
        rcases Nat.lt_or_ge q n with x | x
        · rw [h.2.1 q (Nat.zero_le _) x (om_b_f fun y => absurd (om_oc_iff.mp y).1 (by omega))]; exact ih (q + 1) (by omega)
        · exact h.1 q x
    rw [z n (Nat.le_refl n), y n 0 (by omega)]
  · have a := om_greedy q h n (Nat.le_refl n)
    rw [om_bs_0 h n _ (by omega) (by omega)] at a
    exact a
/-! rank -/
def om_rk (P : Nat → Int32) (i : Nat) : Nat → Nat
  | 0 => 0
  | j + 1 => om_rk P i j + (if P j < P i then 1 else if P j = P i then 16 else 0)
theorem om_rk_1 {P : Nat → Int32} {i j : Nat} (h : P j < P i) : om_rk P i (j + 1) = om_rk P i j + 1 := by
  show om_rk P i j + (if P j < P i then 1 else if P j = P i then 16 else 0) = _
  rw [if_pos h]
theorem om_rk_2 {P : Nat → Int32} {i j : Nat} (h : ¬ P j < P i) (h2 : P j = P i) : om_rk P i (j + 1) = om_rk P i j + 16 := by
  show om_rk P i j + (if P j < P i then 1 else if P j = P i then 16 else 0) = _
  rw [if_neg h, if_pos h2]
theorem om_rk_3 {P : Nat → Int32} {i j : Nat} (h : ¬ P j < P i) (h2 : ¬ P j = P i) : om_rk P i (j + 1) = om_rk P i j := by
  show om_rk P i j + (if P j < P i then 1 else if P j = P i then 16 else 0) = _
  rw [if_neg h, if_neg h2]
  rfl
theorem om_rk_congr {P P2 : Nat → Int32} {i : Nat} : ∀ j, (∀ u, u < j → P u = P2 u) → P i = P2 i → om_rk P i j = om_rk P2 i j := by
  intro j
  induction j with
  | zero => intro _ _; rfl
  | succ j ih =>
    intro h h2
    show om_rk P i j + (if P j < P i then 1 else if P j = P i then 16 else 0) = om_rk P2 i j + (if P2 j < P2 i then 1 else if P2 j = P2 i then 16 else 0)
    rw [ih (fun u hu => h u (by omega)) h2, h j (by omega), h2]
/-! the same answers for the same values -/
theorem om_mt_congr {tx pt tx2 pt2 : Nat → Int32} {k p : Nat} (ht : ∀ j, j ≤ p → tx j = tx2 j) (hp : ∀ j, j < k → pt j = pt2 j) : om_mt tx pt k p = om_mt tx2 pt2 k p := by
  refine om_lg_congr fun b b1 b2 => ?_
  rcases Nat.lt_or_ge (p + 1) b with q | q
  · have e : decide (b ≤ p + 1) = false := decide_eq_false (by omega)
    rw [e, Bool.false_and, Bool.false_and]
  · congr 1
    exact om_ap_congr (fun i hi => ht _ (by omega)) (fun i hi => hp i (by omega))
theorem om_wd_congr {pt pt2 : Nat → Int32} {K : Nat} (hp : ∀ j, j < K → pt j = pt2 j) : om_wd pt K = om_wd pt2 K := by
  refine om_lg_congr fun b b1 b2 => ?_
  exact om_ap_congr (fun i hi => hp i (by omega)) (fun i hi => hp _ (by omega))
theorem om_oc_congr {tx pt tx2 pt2 : Nat → Int32} {n k : Nat} (ht : ∀ j, j < n → tx j = tx2 j) (hp : ∀ j, j < k → pt j = pt2 j) : om_oc tx pt n k = om_oc tx2 pt2 n k := by
  funext q
  refine om_b_eq ?_
  rw [om_oc_iff, om_oc_iff]
  constructor
  · rintro ⟨a1, a2, a3⟩
    refine ⟨a1, a2, ?_⟩
    rw [← a3]
    exact om_ap_congr (fun i hi => (ht _ (by omega)).symm) (fun i hi => (hp i hi).symm)
  · rintro ⟨a1, a2, a3⟩
    refine ⟨a1, a2, ?_⟩
    rw [← a3]
    exact om_ap_congr (fun i hi => ht _ (by omega)) (fun i hi => hp i hi)
theorem om_ed_congr {tx pt tx2 pt2 : Nat → Int32} {k p : Nat} (ht : ∀ j, j ≤ p → tx j = tx2 j) (hp : ∀ j, j < k → pt j = pt2 j) : om_ed tx pt k p = om_ed tx2 pt2 k p := by
  unfold om_ed
  rw [om_mt_congr ht hp]
/-- the period out of the widest border -/
theorem om_per {pt : Nat → Int32} {k z : Nat} (h1 : 1 ≤ z) (h2 : z ≤ k) (h3 : om_ap (fun i => pt (z + i)) pt (k - z) = true) (h4 : ∀ u, 1 ≤ u → u < z → om_ap (fun i => pt (u + i)) pt (k - u) = false) : k - om_wd pt k = z := by
  have e : om_wd pt k = k - z := by
    refine om_lg_eq (by omega) (fun _ => ?_) (fun c c1 c2 => ?_)
    · rw [om_ap_symm, show k - (k - z) = z by omega]; exact h3
    · rw [om_ap_symm]
      have := h4 (k - c) (by omega) (by omega)
      rw [show k - (k - c) = c by omega] at this
      exact this
  omega
end
section
/-! ROWS OF THIS CLAIM: worlds, contexts, numbers as nI n, calls, loops -/
set_option maxRecDepth 100000
abbrev vwCl : List vw_C := [(RX0, TX0, 10), (RX1, TX1, 4)]
/-- an OrderMatcher: its object and its six arrays -/
def om_X (h : Nat → Nat) (d : ClassId) (tx mt pt bl ab fl : Nat → Int32) (len siz kn cd : Int32) : va_W :=
  [(h 0, .inr (0, [.ref (h 1), .ref (h 2), .ref (h 3), .ref (h 4), .ref (h 5), .ref (h 6), .int len, .int siz, .int kn, .int cd])), (h 1, .inl (d, 60, .inl tx)), (h 2, .inl (d, 60, .inl mt)), (h 3, .inl (d, 10, .inl pt)), (h 4, .inl (d, 10, .inl bl)), (h 5, .inl (d, 10, .inl ab)), (h 6, .inl (d, 11, .inl fl))]
/-- an OrderMatcherModel: its object and its two arrays -/
def om_Y (h : Nat → Nat) (d : ClassId) (vl bs : Nat → Int32) (len siz : Int32) : va_W :=
  [(h 0, .inr (1, [.ref (h 1), .int len, .int siz, .ref (h 2)])), (h 1, .inl (d, 70, .inl vl)), (h 2, .inl (d, 61, .inl bs))]
/-- what stays through a method's walk -/
def om_C (p : Program) (m : MethodId) (c : Code) (cc : ByteArray) (nL : Nat) (s : State) (args : Array Value) (own : String) (D : va_G) (d : ClassId) (A : Nat → Prop) : Prop :=
  CallFix p m c cc nL s args lw_all own ∧ va_K D vwCl [(d, .int)] s ∧ ∀ q : Nat, s.heap.size ≤ q → A q
/-- the heap holds the world -/
def om_H (D : va_G) (A : Nat → Prop) (s : State) (ws : va_W) (H : Heap) (locs : List Loc) : Prop :=
  va_P D vwCl ws H ∧ va_D A ws ∧ va_S A s.heap H locs
def om_B {S : Type} (D : va_G) (d : ClassId) (A : Nat → Prop) (Wf : S → va_W) : S → State → Prop := fun u t => va_P D vwCl (Wf u) t.heap ∧ va_K D vwCl [(d, .int)] t ∧ va_D A (Wf u)
def om_Pc (D : va_G) (d : ClassId) (av : List Value) (W0 : va_W) (sz : Nat) : Array Value → State → Prop := va_Pc av (fun U => U.heap.size = sz ∧ va_P D vwCl W0 U.heap ∧ va_K D vwCl [(d, .int)] U ∧ va_D (fun _ => True) W0)
/-- a contract with an int (or boolean) answer -/
def om_Mi {S : Type} (l : Launch) (y : MethodName) (cc : ByteArray) (nL : Nat) (ret : Option FieldType) (rm : Room) (D : va_G) (d : ClassId) (av : List Value) (W0 : va_W) (post : Int32 → S → Prop) (Wf : S → va_W) : Prop :=
  ∀ sz : Nat, Met l y (ws_ y cc nL ret) rm (om_Pc D d av W0 sz) (va_Qi post (om_B D d (va_A W0 sz) Wf) (va_A W0 sz)) 0 0 (va_A W0 sz)
/-- a contract without an answer -/
def om_Mv {S : Type} (l : Launch) (y : MethodName) (cc : ByteArray) (nL : Nat) (ret : Option FieldType) (rm : Room) (D : va_G) (d : ClassId) (av : List Value) (W0 : va_W) (post : S → Prop) (Wf : S → va_W) : Prop :=
  ∀ sz : Nat, Met l y (ws_ y cc nL ret) rm (om_Pc D d av W0 sz) (va_Qv post (om_B D d (va_A W0 sz) Wf) (va_A W0 sz)) 0 0 (va_A W0 sz)
theorem om_enter {l : Launch} {y : MethodName} {cc : ByteArray} {nL : Nat} {ret : Option FieldType} {rm : Room} {D : va_G} {d : ClassId} {W0 : va_W} {av : List Value} {sz : Nat} {Qc : Array Value → State → Outcome → State → Prop} (hy : plainName y.cls = true) (hav : (lg_sl av).length ≤ nL)
    (body : ∀ (p : Program) (e : Env) (s : State) (m : MethodId) (below : List Frame) (meth : Method) (c : Code) (ls : Array Slot), om_C p m c cc nL s av.toArray y.cls D d (va_A W0 sz) → meth.sig.returnType = ret → meth.locks = false → om_H D (va_A W0 sz) s W0 s.heap [] → lv_has ls nL (lv_args 0 av) → W p l e rm s m av.toArray below meth c s.heap [] 0 0 (MQ below Qc av.toArray s 0 0 (va_A W0 sz)) (F0 m 0 ls [])) :
    Met l y (ws_ y cc nL ret) rm (om_Pc D d av W0 sz) Qc 0 0 (va_A W0 sz) := by
  refine Met.ofW (cc := cc) (maxL := nL) (ret := ret) hy rfl ?_
  intro p e s m args below meth c s₁ B hml hv
  obtain ⟨rfl, hsz, hP, hK, hD0⟩ := hv
  have hts := atoms_spec (ws := ws_ y cc nL ret) B.pre
  have hts : ∀ w ∈ lw_all, w.before _ s = true := fun w h => hts w (List.mem_cons_of_mem _ h)
  have hown : s.vm.findClass y.cls = some m.cls := findClass_of_methodNamed B.named
  have hl := lv_entry av (n := nL) hav
  rw [lg_entry_eq]
  exact body p e s m below meth c _ ⟨⟨B.exec, B.bytes, hml, hown, hts⟩, hK, fun q h => Or.inr (by rw [← hsz]; exact h)⟩ B.returns B.notSynchronized ⟨hP, hD0.self, va_S.rf⟩ hl
section OM
variable {p : Program} {l : Launch} {e : Env} {R : Room} {s : State} {m : MethodId} {args : Array Value} {below : List Frame} {meth : Method} {c : Code} {H : Heap} {locs : List Loc} {cells slots : Nat} {Q : State → Prop}
variable {cc : ByteArray} {nL pc : Nat} {ls : Array Slot} {rest : List Value} {D : va_G} {d : ClassId} {A : Nat → Prop} {own : String}
theorem om_iret {S : Type} {post : Int32 → S → Prop} {Wf : S → va_W} {v : Int32} (u : S) (C : om_C p m c cc nL s args own D d A) (hr : meth.sig.returnType = some .int) (hlocks : meth.locks = false) (w : om_H D A s (Wf u) H locs) (hp : post v u) (hdg : decode cc pc = .ok (.ireturn, 1)) :
    W p l e R s m args below meth c H locs 0 0 (MQ below (va_Qi post (om_B D d A Wf) A) args s 0 0 A) (F0 m pc ls [.int v]) :=
  W.iret C.1.1 C.1.2.1 hr (fun t ht hW => ⟨⟨v, u, rfl, hp, by rw [ht]; exact w.1, va_K.moved hW.alike C.2.1, w.2.1⟩, w.2.2.F ht⟩) w.2.2.2.2 hdg hlocks
theorem om_bnar (b : Bool) : narrow .boolean (.int (bI b)) = .int (bI b) := by cases b <;> rfl
theorem om_zret {S : Type} {post : Int32 → S → Prop} {Wf : S → va_W} {b : Bool} (u : S) (C : om_C p m c cc nL s args own D d A) (hr : meth.sig.returnType = some .boolean) (hlocks : meth.locks = false) (w : om_H D A s (Wf u) H locs) (hp : post (bI b) u) (hdg : decode cc pc = .ok (.ireturn, 1)) :
    W p l e R s m args below meth c H locs 0 0 (MQ below (va_Qi post (om_B D d A Wf) A) args s 0 0 A) (F0 m pc ls [.int (bI b)]) :=
  W.zret C.1.1 C.1.2.1 hr (om_bnar b) (fun t ht hW => ⟨⟨bI b, u, rfl, hp, by rw [ht]; exact w.1, va_K.moved hW.alike C.2.1, w.2.1⟩, w.2.2.F ht⟩) w.2.2.2.2 hdg hlocks
theorem om_vret {S : Type} {post : S → Prop} {Wf : S → va_W} (u : S) (C : om_C p m c cc nL s args own D d A) (hr : meth.sig.returnType = none) (hlocks : meth.locks = false) (w : om_H D A s (Wf u) H locs) (hp : post u) (hdg : decode cc pc = .ok (.return_, 1)) :
    W p l e R s m args below meth c H locs 0 0 (MQ below (va_Qv post (om_B D d A Wf) A) args s 0 0 A) (F0 m pc ls []) :=
  W.vret C.1.1 C.1.2.1 hr (fun t ht hW => ⟨⟨u, rfl, hp, by rw [ht]; exact w.1, va_K.moved hW.alike C.2.1, w.2.1⟩, w.2.2.F ht⟩) w.2.2.2.2 hdg hlocks
/-! numbers -/
theorem om_iadd (hx : p.tables.exec = Jvm.exec) (hb : c.code = cc) {a b : Nat} (hdg : decode cc pc = .ok (.iadd, 1)) (k : W p l e R s m args below meth c H locs cells slots Q (F0 m (pc + 1) ls (.int (nI (a + b)) :: rest))) : W p l e R s m args below meth c H locs cells slots Q (F0 m pc ls (.int (nI b) :: .int (nI a) :: rest)) :=
  lv_iadd hx hb hdg (by rw [nI_add]; exact k)
theorem om_isub (hx : p.tables.exec = Jvm.exec) (hb : c.code = cc) {a b : Nat} (h : b ≤ a) (hdg : decode cc pc = .ok (.isub, 1)) (k : W p l e R s m args below meth c H locs cells slots Q (F0 m (pc + 1) ls (.int (nI (a - b)) :: rest))) : W p l e R s m args below meth c H locs cells slots Q (F0 m pc ls (.int (nI b) :: .int (nI a) :: rest)) :=
  lv_isub hx hb hdg (by rw [pk_sub h]; exact k)
theorem om_icmp_ge (hx : p.tables.exec = Jvm.exec) (hb : c.code = cc) {a b : Nat} {off : Int} {tgt : Nat} (hdg : decode cc pc = .ok (.if_icmp .ge off, 3)) (ht : (pc : Int) + off = (tgt : Int)) (h1 : a < 2 ^ 31) (h2 : b < 2 ^ 31)
    (kt : b ≤ a → W p l e R s m args below meth c H locs cells slots Q (F0 m tgt ls rest)) (kf : a < b → W p l e R s m args below meth c H locs cells slots Q (F0 m (pc + 3) ls rest)) : W p l e R s m args below meth c H locs cells slots Q (F0 m pc ls (.int (nI b) :: .int (nI a) :: rest)) :=
  lv_icmp_ge hx hb hdg ht (fun q => kt ((nI_leI h2 h1).mp q)) (fun q => kf (Nat.not_le.mp (fun z => q ((nI_leI h2 h1).mpr z))))
theorem om_icmp_le (hx : p.tables.exec = Jvm.exec) (hb : c.code = cc) {a b : Nat} {off : Int} {tgt : Nat} (hdg : decode cc pc = .ok (.if_icmp .le off, 3)) (ht : (pc : Int) + off = (tgt : Int)) (h1 : a < 2 ^ 31) (h2 : b < 2 ^ 31)
    (kt : a ≤ b → W p l e R s m args below meth c H locs cells slots Q (F0 m tgt ls rest)) (kf : b < a → W p l e R s m args below meth c H locs cells slots Q (F0 m (pc + 3) ls rest)) : W p l e R s m args below meth c H locs cells slots Q (F0 m pc ls (.int (nI b) :: .int (nI a) :: rest)) :=
  lv_icmp_le hx hb hdg ht (fun q => kt ((nI_leI h1 h2).mp q)) (fun q => kf (Nat.not_le.mp (fun z => q ((nI_leI h1 h2).mpr z))))
theorem om_icmp_lt (hx : p.tables.exec = Jvm.exec) (hb : c.code = cc) {a b : Nat} {off : Int} {tgt : Nat} (hdg : decode cc pc = .ok (.if_icmp .lt off, 3)) (ht : (pc : Int) + off = (tgt : Int)) (h1 : a < 2 ^ 31) (h2 : b < 2 ^ 31)
    (kt : a < b → W p l e R s m args below meth c H locs cells slots Q (F0 m tgt ls rest)) (kf : b ≤ a → W p l e R s m args below meth c H locs cells slots Q (F0 m (pc + 3) ls rest)) : W p l e R s m args below meth c H locs cells slots Q (F0 m pc ls (.int (nI b) :: .int (nI a) :: rest)) :=
  lv_icmp_lt hx hb hdg ht (fun q => kt ((nI_ltI h1 h2).mp q)) (fun q => kf (Nat.not_lt.mp (fun z => q ((nI_ltI h1 h2).mpr z))))
theorem om_icmp_gt (hx : p.tables.exec = Jvm.exec) (hb : c.code = cc) {a b : Nat} {off : Int} {tgt : Nat} (hdg : decode cc pc = .ok (.if_icmp .gt off, 3)) (ht : (pc : Int) + off = (tgt : Int)) (h1 : a < 2 ^ 31) (h2 : b < 2 ^ 31)
    (kt : b < a → W p l e R s m args below meth c H locs cells slots Q (F0 m tgt ls rest)) (kf : a ≤ b → W p l e R s m args below meth c H locs cells slots Q (F0 m (pc + 3) ls rest)) : W p l e R s m args below meth c H locs cells slots Q (F0 m pc ls (.int (nI b) :: .int (nI a) :: rest)) :=
  lv_icmp_gt hx hb hdg ht (fun q => kt ((nI_ltI h2 h1).mp q)) (fun q => kf (Nat.not_lt.mp (fun z => q ((nI_ltI h2 h1).mpr z))))
theorem om_icmp_eq (hx : p.tables.exec = Jvm.exec) (hb : c.code = cc) {a b : Nat} {off : Int} {tgt : Nat} (hdg : decode cc pc = .ok (.if_icmp .eq off, 3)) (ht : (pc : Int) + off = (tgt : Int)) (h1 : a < 2 ^ 31) (h2 : b < 2 ^ 31)
    (kt : a = b → W p l e R s m args below meth c H locs cells slots Q (F0 m tgt ls rest)) (kf : ¬ a = b → W p l e R s m args below meth c H locs cells slots Q (F0 m (pc + 3) ls rest)) : W p l e R s m args below meth c H locs cells slots Q (F0 m pc ls (.int (nI b) :: .int (nI a) :: rest)) :=
  lv_icmp_eq hx hb hdg ht (fun q => kt ((nI_eq h1 h2).mp q)) (fun q => kf (fun z => q ((nI_eq h1 h2).mpr z)))
theorem om_icmp_ne (hx : p.tables.exec = Jvm.exec) (hb : c.code = cc) {a b : Nat} {off : Int} {tgt : Nat} (hdg : decode cc pc = .ok (.if_icmp .ne off, 3)) (ht : (pc : Int) + off = (tgt : Int)) (h1 : a < 2 ^ 31) (h2 : b < 2 ^ 31)
    (kt : ¬ a = b → W p l e R s m args below meth c H locs cells slots Q (F0 m tgt ls rest)) (kf : a = b → W p l e R s m args below meth c H locs cells slots Q (F0 m (pc + 3) ls rest)) : W p l e R s m args below meth c H locs cells slots Q (F0 m pc ls (.int (nI b) :: .int (nI a) :: rest)) :=
  lv_icmp_ne hx hb hdg ht (fun q => kt (fun z => q ((nI_eq h1 h2).mpr z))) (fun q => kf ((nI_eq h1 h2).mp q))
/-- a number against a difference of two -/
theorem om_leD {a b x : Nat} (ha : a < 2 ^ 30) (hb : b < 2 ^ 30) (hx : x < 2 ^ 31) : nI x ≤ nI a - nI b ↔ x + b ≤ a := by
  rw [Int32.le_iff_toInt_le, nI_toInt hx, pk_sub_toInt ha hb]
  omega
theorem om_icmp_leD (hx : p.tables.exec = Jvm.exec) (hb : c.code = cc) {a b x : Nat} {off : Int} {tgt : Nat} (hdg : decode cc pc = .ok (.if_icmp .le off, 3)) (ht : (pc : Int) + off = (tgt : Int)) (h1 : a < 2 ^ 30) (h2 : b < 2 ^ 30) (h3 : x < 2 ^ 31)
    (kt : x + b ≤ a → W p l e R s m args below meth c H locs cells slots Q (F0 m tgt ls rest)) (kf : a < x + b → W p l e R s m args below meth c H locs cells slots Q (F0 m (pc + 3) ls rest)) : W p l e R s m args below meth c H locs cells slots Q (F0 m pc ls (.int (nI a - nI b) :: .int (nI x) :: rest)) :=
  lv_icmp_le hx hb hdg ht (fun q => kt ((om_leD h1 h2 h3).mp q)) (fun q => kf (Nat.not_le.mp (fun z => q ((om_leD h1 h2 h3).mpr z))))
theorem om_icmp_gtD (hx : p.tables.exec = Jvm.exec) (hb : c.code = cc) {a b x : Nat} {off : Int} {tgt : Nat} (hdg : decode cc pc = .ok (.if_icmp .gt off, 3)) (ht : (pc : Int) + off = (tgt : Int)) (h1 : a < 2 ^ 30) (h2 : b < 2 ^ 30) (h3 : x < 2 ^ 31)
    (kt : a < x + b → W p l e R s m args below meth c H locs cells slots Q (F0 m tgt ls rest)) (kf : x + b ≤ a → W p l e R s m args below meth c H locs cells slots Q (F0 m (pc + 3) ls rest)) : W p l e R s m args below meth c H locs cells slots Q (F0 m pc ls (.int (nI a - nI b) :: .int (nI x) :: rest)) :=
  lv_icmp_gt hx hb hdg ht (fun q => kt (Nat.not_le.mp (fun z => by
    have := (om_leD h1 h2 h3).mpr z
    rw [Int32.lt_iff_toInt_lt] at q
    rw [Int32.le_iff_toInt_le] at this
    omega))) (fun q => kf ((om_leD h1 h2 h3).mp (by
    rw [Int32.lt_iff_toInt_lt] at q
    rw [Int32.le_iff_toInt_le]
    omega)))
theorem om_if_lt (hx : p.tables.exec = Jvm.exec) (hb : c.code = cc) {a : Nat} {off : Int} {tgt : Nat} (hdg : decode cc pc = .ok (.ifCond .lt off, 3)) (ht : (pc : Int) + off = (tgt : Int)) (h1 : a < 2 ^ 31)
    (kf : W p l e R s m args below meth c H locs cells slots Q (F0 m (pc + 3) ls rest)) : W p l e R s m args below meth c H locs cells slots Q (F0 m pc ls (.int (nI a) :: rest)) :=
  lv_if_lt hx hb hdg ht (fun q => absurd q (nI_pos h1)) (fun _ => kf)
theorem om_if_ge (hx : p.tables.exec = Jvm.exec) (hb : c.code = cc) {a : Nat} {off : Int} {tgt : Nat} (hdg : decode cc pc = .ok (.ifCond .ge off, 3)) (ht : (pc : Int) + off = (tgt : Int)) (h1 : a < 2 ^ 31)
    (kt : W p l e R s m args below meth c H locs cells slots Q (F0 m tgt ls rest)) : W p l e R s m args below meth c H locs cells slots Q (F0 m pc ls (.int (nI a) :: rest)) :=
  lv_if_ge hx hb hdg ht (fun _ => kt) (fun q => absurd (nI_pos' h1) q)
theorem om_if_le (hx : p.tables.exec = Jvm.exec) (hb : c.code = cc) {a : Nat} {off : Int} {tgt : Nat} (hdg : decode cc pc = .ok (.ifCond .le off, 3)) (ht : (pc : Int) + off = (tgt : Int)) (h1 : a < 2 ^ 31)
    (kt : a = 0 → W p l e R s m args below meth c H locs cells slots Q (F0 m tgt ls rest)) (kf : 0 < a → W p l e R s m args below meth c H locs cells slots Q (F0 m (pc + 3) ls rest)) : W p l e R s m args below meth c H locs cells slots Q (F0 m pc ls (.int (nI a) :: rest)) :=
  lv_if_le hx hb hdg ht (fun q => kt (by
    rcases Nat.eq_zero_or_pos a with z | z
    · exact z
    · exact absurd q (nI_nle z h1))) (fun q => kf (by
    rcases Nat.eq_zero_or_pos a with z | z
    · subst z; exact absurd (by decide) q
    · exact z))
theorem om_if_eq (hx : p.tables.exec = Jvm.exec) (hb : c.code = cc) {a : Nat} {off : Int} {tgt : Nat} (hdg : decode cc pc = .ok (.ifCond .eq off, 3)) (ht : (pc : Int) + off = (tgt : Int)) (h1 : a < 2 ^ 31)
    (kt : a = 0 → W p l e R s m args below meth c H locs cells slots Q (F0 m tgt ls rest)) (kf : 0 < a → W p l e R s m args below meth c H locs cells slots Q (F0 m (pc + 3) ls rest)) : W p l e R s m args below meth c H locs cells slots Q (F0 m pc ls (.int (nI a) :: rest)) :=
  lv_if_eq hx hb hdg ht (fun q => kt (by
    rcases Nat.eq_zero_or_pos a with z | z
    · exact z
    · exact absurd q (nI_ne0 z h1))) (fun q => kf (by
    rcases Nat.eq_zero_or_pos a with z | z
    · subst z; exact absurd (by decide) q
    · exact z))
theorem om_if_ne (hx : p.tables.exec = Jvm.exec) (hb : c.code = cc) {a : Nat} {off : Int} {tgt : Nat} (hdg : decode cc pc = .ok (.ifCond .ne off, 3)) (ht : (pc : Int) + off = (tgt : Int)) (h1 : a < 2 ^ 31)
    (kt : 0 < a → W p l e R s m args below meth c H locs cells slots Q (F0 m tgt ls rest)) (kf : a = 0 → W p l e R s m args below meth c H locs cells slots Q (F0 m (pc + 3) ls rest)) : W p l e R s m args below meth c H locs cells slots Q (F0 m pc ls (.int (nI a) :: rest)) :=
  lv_if_ne hx hb hdg ht (fun q => kt (by
    rcases Nat.eq_zero_or_pos a with z | z
    · subst z; exact absurd (by decide) q
    · exact z)) (fun q => kf (by
    rcases Nat.eq_zero_or_pos a with z | z
    · exact z
    · exact absurd q (nI_ne0 z h1)))
/-- a truth value on the stack -/
theorem om_if_eqB (hx : p.tables.exec = Jvm.exec) (hb : c.code = cc) {b : Bool} {off : Int} {tgt : Nat} (hdg : decode cc pc = .ok (.ifCond .eq off, 3)) (ht : (pc : Int) + off = (tgt : Int))
    (kt : b = false → W p l e R s m args below meth c H locs cells slots Q (F0 m tgt ls rest)) (kf : b = true → W p l e R s m args below meth c H locs cells slots Q (F0 m (pc + 3) ls rest)) : W p l e R s m args below meth c H locs cells slots Q (F0 m pc ls (.int (bI b) :: rest)) :=
  lv_if_eq hx hb hdg ht (fun q => kt (by
    cases b
    · rfl
    · exact absurd q (by decide))) (fun q => kf (by
    cases b
    · exact absurd (by decide) q
    · rfl))
/-! arrays -/
theorem om_iald {ws : va_W} {a n : Nat} {f : Nat → Int32} (q0 : Nat) (ha : ws[q0]? = some (a, .inl (d, n, .inl f))) (C : om_C p m c cc nL s args own D d A) (w : om_H D A s ws H locs) {i : Nat} (hi : i < n) (hn : n < 2 ^ 31) (hdg : decode cc pc = .ok (.iaload, 1))
    (kk : W p l e R s m args below meth c H locs cells slots Q (F0 m (pc + 1) ls (.int (f i) :: rest))) : W p l e R s m args below meth c H locs cells slots Q (F0 m pc ls (.int (nI i) :: .ref a :: rest)) := by
  refine va_iald C.1.1 C.1.2.1 C.2.1 w.1 q0 0 ha rfl (vp_in_nI hi hn) hdg ?_
  rw [nI_clamp (by omega)]
  exact kk
theorem om_iast {ws : va_W} {a n : Nat} {f : Nat → Int32} (q0 : Nat) (ha : ws[q0]? = some (a, .inl (d, n, .inl f))) (C : om_C p m c cc nL s args own D d A) (w : om_H D A s ws H locs) {i : Nat} {v : Int32} (hi : i < n) (hn : n < 2 ^ 31) (hdg : decode cc pc = .ok (.iastore, 1))
    (kk : ∀ (H1 : Heap) (locs1 : List Loc), om_H D A s (ws.set q0 (a, .inl (d, n, .inl (upd f i v)))) H1 locs1 → W p l e R s m args below meth c H1 locs1 cells slots Q (F0 m (pc + 1) ls rest)) : W p l e R s m args below meth c H locs cells slots Q (F0 m pc ls (.int v :: .int (nI i) :: .ref a :: rest)) := by
  refine va_iast C.1.1 C.1.2.1 C.2.1 w.1 w.2.1 w.2.2 q0 0 ha rfl (vp_in_nI hi hn) hdg (fun H1 locs1 hP hD hS => ?_)
  rw [nI_clamp (by omega)] at hP hD
  exact kk H1 locs1 ⟨hP, hD, hS⟩
/-! calls -/
theorem om_pick {ws Wc : va_W} {is : List Nat} (hC : is.map (fun i => ws[i]?) = Wc.map some) : is.filterMap (fun i => ws[i]?) = Wc := by
  have e : is.filterMap (fun i => ws[i]?) = (is.map (fun i => ws[i]?)).filterMap id := by rw [List.filterMap_map]; rfl
  rw [e, hC, List.filterMap_map]
  simp
theorem om_calli {S : Type} {post : Int32 → S → Prop} {Wf : S → va_W} {ws Wc Wr : va_W} {y : MethodName} {bytes : ByteArray} {maxL index n b ci : Nat} {ret : Option FieldType} {rm : Room} {As st fs : List Value} {q : vw_C} (C : om_C p m c cc nL s args own D d A) (w : om_H D A s ws H locs)
    (hM : om_Mi l y bytes maxL ret rm D d (.ref b :: As) Wc post Wf) (isC isR : List Nat) (hC : isC.map (fun i => ws[i]?) = Wc.map some) (hR : isR.map (fun i => ws[i]?) = Wr.map some) (hnC : va_nd isC = true) (hnR : va_nd isR = true) (hdis : ∀ i ∈ isR, i ∉ isC)
    (he : Wc[0]? = some (b, .inr (ci, fs))) (hc : vwCl[ci]? = some q) (cw : CallW R s args own q.1 index y bytes maxL ret (ws_ y bytes maxL ret) rm 0 0 n) (hn : As.length = n) (hsize : ls.size = nL) (hst : st = As.reverse ++ .ref b :: rest) (hrest : (rest.map fun v => v.category).sum ≤ 8)
    (hdg : decode cc pc = .ok (.invokevirtual index, 3)) (hf : cells ≤ R.cells ∧ slots ≤ R.slots)
    (kk : ∀ (r : Int32) (u : S) (H1 : Heap) (locs1 : List Loc), post r u → om_H D A s (Wr ++ Wf u) H1 locs1 → W p l e R s m args below meth c H1 locs1 cells slots Q (F0 m (pc + 3) ls (.int r :: rest))) : W p l e R s m args below meth c H locs cells slots Q (F0 m pc ls st) := by
  obtain ⟨hP, hD, hS⟩ := w
  have hPc : va_P D vwCl Wc H := hP.sub isC (om_pick hC)
  have hDc : va_D A Wc := hD.sub isC hnC hC
  have hFc : ∀ q, va_A Wc H.size q → A q := va_free hD hS C.2.2 isC hC
  refine va_calli (va_runV (As := As) (rest := rest) C.1 (hM H.size) cw ⟨fun a U g mk q => by obtain ⟨q0, q1, qP, qK, qD⟩ := q; exact ⟨q0, q1, qP, va_K.moved (u := U) (U := U.calling g mk a) (Vm.Alike.refl U.vm) qK, qD⟩, va_recv C.2.1 hPc hc he, fun U hU hW => ⟨rfl, by rw [hU], by rw [hU]; exact hPc, va_K.moved hW.alike C.2.1, hDc.weaken (fun _ _ _ _ => trivial)⟩⟩ rfl hn hsize hst (lv_room hrest) hdg hf) hS (fun q _ h => hFc q h) hFc (fun r u t H1 locs1 ht hvm hw1 hB hz1 hk1 hS1 => ?_)
  obtain ⟨hP1, hK1, hD1⟩ := hB
  rw [ht] at hP1
  obtain ⟨hP2, hD2⟩ := va_join hP hD isC isR hC hR hnR hdis hk1 hFc hP1 hD1
  exact kk r u H1 locs1 hw1 ⟨hP2, hD2, hS1⟩
theorem om_callv {S : Type} {post : S → Prop} {Wf : S → va_W} {ws Wc Wr : va_W} {y : MethodName} {bytes : ByteArray} {maxL index n b ci : Nat} {ret : Option FieldType} {rm : Room} {As st fs : List Value} {q : vw_C} (C : om_C p m c cc nL s args own D d A) (w : om_H D A s ws H locs)
    (hM : om_Mv l y bytes maxL ret rm D d (.ref b :: As) Wc post Wf) (isC isR : List Nat) (hC : isC.map (fun i => ws[i]?) = Wc.map some) (hR : isR.map (fun i => ws[i]?) = Wr.map some) (hnC : va_nd isC = true) (hnR : va_nd isR = true) (hdis : ∀ i ∈ isR, i ∉ isC)
    (he : Wc[0]? = some (b, .inr (ci, fs))) (hc : vwCl[ci]? = some q) (cw : CallW R s args own q.1 index y bytes maxL ret (ws_ y bytes maxL ret) rm 0 0 n) (hn : As.length = n) (hsize : ls.size = nL) (hst : st = As.reverse ++ .ref b :: rest) (hrest : (rest.map fun v => v.category).sum ≤ 8)
    (hdg : decode cc pc = .ok (.invokevirtual index, 3)) (hf : cells ≤ R.cells ∧ slots ≤ R.slots)
    (kk : ∀ (u : S) (H1 : Heap) (locs1 : List Loc), post u → om_H D A s (Wr ++ Wf u) H1 locs1 → W p l e R s m args below meth c H1 locs1 cells slots Q (F0 m (pc + 3) ls rest)) : W p l e R s m args below meth c H locs cells slots Q (F0 m pc ls st) := by
  obtain ⟨hP, hD, hS⟩ := w
  have hPc : va_P D vwCl Wc H := hP.sub isC (om_pick hC)
  have hDc : va_D A Wc := hD.sub isC hnC hC
  have hFc : ∀ q, va_A Wc H.size q → A q := va_free hD hS C.2.2 isC hC
  refine va_callv (va_runV (As := As) (rest := rest) C.1 (hM H.size) cw ⟨fun a U g mk q => by obtain ⟨q0, q1, qP, qK, qD⟩ := q; exact ⟨q0, q1, qP, va_K.moved (u := U) (U := U.calling g mk a) (Vm.Alike.refl U.vm) qK, qD⟩, va_recv C.2.1 hPc hc he, fun U hU hW => ⟨rfl, by rw [hU], by rw [hU]; exact hPc, va_K.moved hW.alike C.2.1, hDc.weaken (fun _ _ _ _ => trivial)⟩⟩ rfl hn hsize hst (lv_room hrest) hdg hf) hS (fun q _ h => hFc q h) hFc (fun u t H1 locs1 ht hvm hw1 hB hz1 hk1 hS1 => ?_)
  obtain ⟨hP1, hK1, hD1⟩ := hB
  rw [ht] at hP1
  obtain ⟨hP2, hD2⟩ := va_join hP hD isC isR hC hR hnR hdis hk1 hFc hP1 hD1
  exact kk u H1 locs1 hw1 ⟨hP2, hD2, hS1⟩
/-! loops -/
theorem om_loop1 {α : Type} {pc : Nat} (I : α → Heap → List Loc → Array Slot → Prop) (μ : α → Nat) (step : ∀ (a : α) (H : Heap) (locs : List Loc) (ls : Array Slot), I a H locs ls → (∀ (b : α) (H : Heap) (locs : List Loc) (ls : Array Slot), μ b < μ a → I b H locs ls → W p l e R s m args below meth c H locs cells slots Q (F0 m pc ls [])) → W p l e R s m args below meth c H locs cells slots Q (F0 m pc ls []))
    (a : α) (H : Heap) (locs : List Loc) (ls : Array Slot) (h : I a H locs ls) : W p l e R s m args below meth c H locs cells slots Q (F0 m pc ls []) := by
  have key : ∀ (n : Nat) (a : α) (H : Heap) (locs : List Loc) (ls : Array Slot), μ a < n → I a H locs ls → W p l e R s m args below meth c H locs cells slots Q (F0 m pc ls []) := by
    intro n
    induction n with
    | zero => intro a H locs ls h; exact absurd h (Nat.not_lt_zero _)
    | succ n ih => intro a H locs ls h hI; exact step a H locs ls hI (fun b H locs ls hb hI => ih b H locs ls (by omega) hI)
  exact key (μ a + 1) a H locs ls (Nat.lt_succ_self _) h
theorem om_loop2 {α β : Type} {pc : Nat} (I : α → β → Heap → List Loc → Array Slot → Prop) (μ : α → β → Nat) (step : ∀ (a : α) (b : β) (H : Heap) (locs : List Loc) (ls : Array Slot), I a b H locs ls → (∀ (a2 : α) (b2 : β) (H : Heap) (locs : List Loc) (ls : Array Slot), μ a2 b2 < μ a b → I a2 b2 H locs ls → W p l e R s m args below meth c H locs cells slots Q (F0 m pc ls [])) → W p l e R s m args below meth c H locs cells slots Q (F0 m pc ls []))
    (a : α) (b : β) (H : Heap) (locs : List Loc) (ls : Array Slot) (h : I a b H locs ls) : W p l e R s m args below meth c H locs cells slots Q (F0 m pc ls []) :=
  om_loop1 (α := α × β) (fun q => I q.1 q.2) (fun q => μ q.1 q.2) (fun q H locs ls hI ih => step q.1 q.2 H locs ls hI (fun a2 b2 H locs ls hm hI => ih (a2, b2) H locs ls hm hI)) (a, b) H locs ls h
theorem om_loop3 {α β γ : Type} {pc : Nat} (I : α → β → γ → Heap → List Loc → Array Slot → Prop) (μ : α → β → γ → Nat) (step : ∀ (a : α) (b : β) (g : γ) (H : Heap) (locs : List Loc) (ls : Array Slot), I a b g H locs ls → (∀ (a2 : α) (b2 : β) (g2 : γ) (H : Heap) (locs : List Loc) (ls : Array Slot), μ a2 b2 g2 < μ a b g → I a2 b2 g2 H locs ls → W p l e R s m args below meth c H locs cells slots Q (F0 m pc ls [])) → W p l e R s m args below meth c H locs cells slots Q (F0 m pc ls []))
    (a : α) (b : β) (g : γ) (H : Heap) (locs : List Loc) (ls : Array Slot) (h : I a b g H locs ls) : W p l e R s m args below meth c H locs cells slots Q (F0 m pc ls []) :=
  om_loop1 (α := α × β × γ) (fun q => I q.1 q.2.1 q.2.2) (fun q => μ q.1 q.2.1 q.2.2) (fun q H locs ls hI ih => step q.1 q.2.1 q.2.2 H locs ls hI (fun a2 b2 g2 H locs ls hm hI => ih (a2, b2, g2) H locs ls hm hI)) (a, b, g) H locs ls h
variable {h : Nat → Nat} {tx mt pt bl ab fl vl bs : Nat → Int32} {len siz kn cd : Int32}
theorem xg_tx (C : om_C p m c cc nL s args RX0 D d A) (w : om_H D A s (om_X h d tx mt pt bl ab fl len siz kn cd) H locs) (hdg : decode cc pc = .ok (.getfield 7, 3)) (kk : W p l e R s m args below meth c H locs cells slots Q (F0 m (pc + 3) ls (.ref (h 1) :: rest))) : W p l e R s m args below meth c H locs cells slots Q (F0 m pc ls (.ref (h 0) :: rest)) :=
  va_get (D := D) (ci := 0) (v := .ref (h 1)) (C := RX0) (T := TX0) (N := 10) C.1.1 C.1.2.1 C.1.2.2.2.2 in_X0 C.1.2.2.2.1 C.2.1 w.1 0 rfl rfl 0 (by decide) (C.1.2.2.2.2 _ q23) (fun _ h9 => h9) rfl hdg kk
theorem xg_mt (C : om_C p m c cc nL s args RX0 D d A) (w : om_H D A s (om_X h d tx mt pt bl ab fl len siz kn cd) H locs) (hdg : decode cc pc = .ok (.getfield 13, 3)) (kk : W p l e R s m args below meth c H locs cells slots Q (F0 m (pc + 3) ls (.ref (h 2) :: rest))) : W p l e R s m args below meth c H locs cells slots Q (F0 m pc ls (.ref (h 0) :: rest)) :=
  va_get (D := D) (ci := 0) (v := .ref (h 2)) (C := RX0) (T := TX0) (N := 10) C.1.1 C.1.2.1 C.1.2.2.2.2 in_X0 C.1.2.2.2.1 C.2.1 w.1 0 rfl rfl 1 (by decide) (C.1.2.2.2.2 _ q24) (fun _ h9 => h9) rfl hdg kk
theorem xg_pt (C : om_C p m c cc nL s args RX0 D d A) (w : om_H D A s (om_X h d tx mt pt bl ab fl len siz kn cd) H locs) (hdg : decode cc pc = .ok (.getfield 16, 3)) (kk : W p l e R s m args below meth c H locs cells slots Q (F0 m (pc + 3) ls (.ref (h 3) :: rest))) : W p l e R s m args below meth c H locs cells slots Q (F0 m pc ls (.ref (h 0) :: rest)) :=
  va_get (D := D) (ci := 0) (v := .ref (h 3)) (C := RX0) (T := TX0) (N := 10) C.1.1 C.1.2.1 C.1.2.2.2.2 in_X0 C.1.2.2.2.1 C.2.1 w.1 0 rfl rfl 2 (by decide) (C.1.2.2.2.2 _ q25) (fun _ h9 => h9) rfl hdg kk
theorem xg_bl (C : om_C p m c cc nL s args RX0 D d A) (w : om_H D A s (om_X h d tx mt pt bl ab fl len siz kn cd) H locs) (hdg : decode cc pc = .ok (.getfield 19, 3)) (kk : W p l e R s m args below meth c H locs cells slots Q (F0 m (pc + 3) ls (.ref (h 4) :: rest))) : W p l e R s m args below meth c H locs cells slots Q (F0 m pc ls (.ref (h 0) :: rest)) :=
  va_get (D := D) (ci := 0) (v := .ref (h 4)) (C := RX0) (T := TX0) (N := 10) C.1.1 C.1.2.1 C.1.2.2.2.2 in_X0 C.1.2.2.2.1 C.2.1 w.1 0 rfl rfl 3 (by decide) (C.1.2.2.2.2 _ q26) (fun _ h9 => h9) rfl hdg kk
theorem xg_ab (C : om_C p m c cc nL s args RX0 D d A) (w : om_H D A s (om_X h d tx mt pt bl ab fl len siz kn cd) H locs) (hdg : decode cc pc = .ok (.getfield 22, 3)) (kk : W p l e R s m args below meth c H locs cells slots Q (F0 m (pc + 3) ls (.ref (h 5) :: rest))) : W p l e R s m args below meth c H locs cells slots Q (F0 m pc ls (.ref (h 0) :: rest)) :=
  va_get (D := D) (ci := 0) (v := .ref (h 5)) (C := RX0) (T := TX0) (N := 10) C.1.1 C.1.2.1 C.1.2.2.2.2 in_X0 C.1.2.2.2.1 C.2.1 w.1 0 rfl rfl 4 (by decide) (C.1.2.2.2.2 _ q27) (fun _ h9 => h9) rfl hdg kk
theorem xg_fl (C : om_C p m c cc nL s args RX0 D d A) (w : om_H D A s (om_X h d tx mt pt bl ab fl len siz kn cd) H locs) (hdg : decode cc pc = .ok (.getfield 25, 3)) (kk : W p l e R s m args below meth c H locs cells slots Q (F0 m (pc + 3) ls (.ref (h 6) :: rest))) : W p l e R s m args below meth c H locs cells slots Q (F0 m pc ls (.ref (h 0) :: rest)) :=
  va_get (D := D) (ci := 0) (v := .ref (h 6)) (C := RX0) (T := TX0) (N := 10) C.1.1 C.1.2.1 C.1.2.2.2.2 in_X0 C.1.2.2.2.1 C.2.1 w.1 0 rfl rfl 5 (by decide) (C.1.2.2.2.2 _ q28) (fun _ h9 => h9) rfl hdg kk
theorem xg_len (C : om_C p m c cc nL s args RX0 D d A) (w : om_H D A s (om_X h d tx mt pt bl ab fl len siz kn cd) H locs) (hdg : decode cc pc = .ok (.getfield 39, 3)) (kk : W p l e R s m args below meth c H locs cells slots Q (F0 m (pc + 3) ls (.int len :: rest))) : W p l e R s m args below meth c H locs cells slots Q (F0 m pc ls (.ref (h 0) :: rest)) :=
  va_get (D := D) (ci := 0) (v := .int len) (C := RX0) (T := TX0) (N := 10) C.1.1 C.1.2.1 C.1.2.2.2.2 in_X0 C.1.2.2.2.1 C.2.1 w.1 0 rfl rfl 6 (by decide) (C.1.2.2.2.2 _ q29) (fun _ h9 => h9) rfl hdg kk
theorem xg_siz (C : om_C p m c cc nL s args RX0 D d A) (w : om_H D A s (om_X h d tx mt pt bl ab fl len siz kn cd) H locs) (hdg : decode cc pc = .ok (.getfield 32, 3)) (kk : W p l e R s m args below meth c H locs cells slots Q (F0 m (pc + 3) ls (.int siz :: rest))) : W p l e R s m args below meth c H locs cells slots Q (F0 m pc ls (.ref (h 0) :: rest)) :=
  va_get (D := D) (ci := 0) (v := .int siz) (C := RX0) (T := TX0) (N := 10) C.1.1 C.1.2.1 C.1.2.2.2.2 in_X0 C.1.2.2.2.1 C.2.1 w.1 0 rfl rfl 7 (by decide) (C.1.2.2.2.2 _ q30) (fun _ h9 => h9) rfl hdg kk
theorem xg_kn (C : om_C p m c cc nL s args RX0 D d A) (w : om_H D A s (om_X h d tx mt pt bl ab fl len siz kn cd) H locs) (hdg : decode cc pc = .ok (.getfield 42, 3)) (kk : W p l e R s m args below meth c H locs cells slots Q (F0 m (pc + 3) ls (.int kn :: rest))) : W p l e R s m args below meth c H locs cells slots Q (F0 m pc ls (.ref (h 0) :: rest)) :=
  va_get (D := D) (ci := 0) (v := .int kn) (C := RX0) (T := TX0) (N := 10) C.1.1 C.1.2.1 C.1.2.2.2.2 in_X0 C.1.2.2.2.1 C.2.1 w.1 0 rfl rfl 8 (by decide) (C.1.2.2.2.2 _ q31) (fun _ h9 => h9) rfl hdg kk
theorem xg_cd (C : om_C p m c cc nL s args RX0 D d A) (w : om_H D A s (om_X h d tx mt pt bl ab fl len siz kn cd) H locs) (hdg : decode cc pc = .ok (.getfield 28, 3)) (kk : W p l e R s m args below meth c H locs cells slots Q (F0 m (pc + 3) ls (.int cd :: rest))) : W p l e R s m args below meth c H locs cells slots Q (F0 m pc ls (.ref (h 0) :: rest)) :=
  va_get (D := D) (ci := 0) (v := .int cd) (C := RX0) (T := TX0) (N := 10) C.1.1 C.1.2.1 C.1.2.2.2.2 in_X0 C.1.2.2.2.1 C.2.1 w.1 0 rfl rfl 9 (by decide) (C.1.2.2.2.2 _ q32) (fun _ h9 => h9) rfl hdg kk
theorem xp_len {v : Int32} (C : om_C p m c cc nL s args RX0 D d A) (w : om_H D A s (om_X h d tx mt pt bl ab fl len siz kn cd) H locs) (hdg : decode cc pc = .ok (.putfield 39, 3)) (kk : ∀ (H1 : Heap) (locs1 : List Loc), om_H D A s (om_X h d tx mt pt bl ab fl v siz kn cd) H1 locs1 → W p l e R s m args below meth c H1 locs1 cells slots Q (F0 m (pc + 3) ls rest)) : W p l e R s m args below meth c H locs cells slots Q (F0 m pc ls (.int v :: .ref (h 0) :: rest)) :=
  va_put (D := D) (ci := 0) (v := .int v) (ty := .int) (C := RX0) (T := TX0) (N := 10) C.1.1 C.1.2.1 C.1.2.2.2.2 in_X0 tyX0 tyX0_ok nmX0 C.1.2.2.2.1 C.2.1 w.1 w.2.1 w.2.2 0 rfl rfl 6 (by decide) (C.1.2.2.2.2 _ q29) (fun _ h9 => h9) rfl (by decide +kernel) rfl rfl (Nat.le_of_ble_eq_true rfl) hdg (fun H1 locs1 hP hD hS => kk H1 locs1 ⟨hP, hD, hS⟩)
theorem xp_siz {v : Int32} (C : om_C p m c cc nL s args RX0 D d A) (w : om_H D A s (om_X h d tx mt pt bl ab fl len siz kn cd) H locs) (hdg : decode cc pc = .ok (.putfield 32, 3)) (kk : ∀ (H1 : Heap) (locs1 : List Loc), om_H D A s (om_X h d tx mt pt bl ab fl len v kn cd) H1 locs1 → W p l e R s m args below meth c H1 locs1 cells slots Q (F0 m (pc + 3) ls rest)) : W p l e R s m args below meth c H locs cells slots Q (F0 m pc ls (.int v :: .ref (h 0) :: rest)) :=
  va_put (D := D) (ci := 0) (v := .int v) (ty := .int) (C := RX0) (T := TX0) (N := 10) C.1.1 C.1.2.1 C.1.2.2.2.2 in_X0 tyX0 tyX0_ok nmX0 C.1.2.2.2.1 C.2.1 w.1 w.2.1 w.2.2 0 rfl rfl 7 (by decide) (C.1.2.2.2.2 _ q30) (fun _ h9 => h9) rfl (by decide +kernel) rfl rfl (Nat.le_of_ble_eq_true rfl) hdg (fun H1 locs1 hP hD hS => kk H1 locs1 ⟨hP, hD, hS⟩)
theorem xp_kn {v : Int32} (C : om_C p m c cc nL s args RX0 D d A) (w : om_H D A s (om_X h d tx mt pt bl ab fl len siz kn cd) H locs) (hdg : decode cc pc = .ok (.putfield 42, 3)) (kk : ∀ (H1 : Heap) (locs1 : List Loc), om_H D A s (om_X h d tx mt pt bl ab fl len siz v cd) H1 locs1 → W p l e R s m args below meth c H1 locs1 cells slots Q (F0 m (pc + 3) ls rest)) : W p l e R s m args below meth c H locs cells slots Q (F0 m pc ls (.int v :: .ref (h 0) :: rest)) :=
  va_put (D := D) (ci := 0) (v := .int v) (ty := .int) (C := RX0) (T := TX0) (N := 10) C.1.1 C.1.2.1 C.1.2.2.2.2 in_X0 tyX0 tyX0_ok nmX0 C.1.2.2.2.1 C.2.1 w.1 w.2.1 w.2.2 0 rfl rfl 8 (by decide) (C.1.2.2.2.2 _ q31) (fun _ h9 => h9) rfl (by decide +kernel) rfl rfl (Nat.le_of_ble_eq_true rfl) hdg (fun H1 locs1 hP hD hS => kk H1 locs1 ⟨hP, hD, hS⟩)
theorem xp_cd {v : Int32} (C : om_C p m c cc nL s args RX0 D d A) (w : om_H D A s (om_X h d tx mt pt bl ab fl len siz kn cd) H locs) (hn : narrow .boolean (.int v) = .int v) (hf : fits .boolean (.int v) = true) (hdg : decode cc pc = .ok (.putfield 28, 3)) (kk : ∀ (H1 : Heap) (locs1 : List Loc), om_H D A s (om_X h d tx mt pt bl ab fl len siz kn v) H1 locs1 → W p l e R s m args below meth c H1 locs1 cells slots Q (F0 m (pc + 3) ls rest)) : W p l e R s m args below meth c H locs cells slots Q (F0 m pc ls (.int v :: .ref (h 0) :: rest)) :=
  va_put (D := D) (ci := 0) (v := .int v) (ty := .boolean) (C := RX0) (T := TX0) (N := 10) C.1.1 C.1.2.1 C.1.2.2.2.2 in_X0 tyX0 tyX0_ok nmX0 C.1.2.2.2.1 C.2.1 w.1 w.2.1 w.2.2 0 rfl rfl 9 (by decide) (C.1.2.2.2.2 _ q32) (fun _ h9 => h9) rfl (by decide +kernel) hn hf (Nat.le_of_ble_eq_true rfl) hdg (fun H1 locs1 hP hD hS => kk H1 locs1 ⟨hP, hD, hS⟩)
theorem yg_vl (C : om_C p m c cc nL s args RX1 D d A) (w : om_H D A s (om_Y h d vl bs len siz) H locs) (hdg : decode cc pc = .ok (.getfield 7, 3)) (kk : W p l e R s m args below meth c H locs cells slots Q (F0 m (pc + 3) ls (.ref (h 1) :: rest))) : W p l e R s m args below meth c H locs cells slots Q (F0 m pc ls (.ref (h 0) :: rest)) :=
  va_get (D := D) (ci := 1) (v := .ref (h 1)) (C := RX1) (T := TX1) (N := 4) C.1.1 C.1.2.1 C.1.2.2.2.2 in_X1 C.1.2.2.2.1 C.2.1 w.1 0 rfl rfl 0 (by decide) (C.1.2.2.2.2 _ q169) (fun _ h9 => h9) rfl hdg kk
theorem yg_len (C : om_C p m c cc nL s args RX1 D d A) (w : om_H D A s (om_Y h d vl bs len siz) H locs) (hdg : decode cc pc = .ok (.getfield 20, 3)) (kk : W p l e R s m args below meth c H locs cells slots Q (F0 m (pc + 3) ls (.int len :: rest))) : W p l e R s m args below meth c H locs cells slots Q (F0 m pc ls (.ref (h 0) :: rest)) :=
  va_get (D := D) (ci := 1) (v := .int len) (C := RX1) (T := TX1) (N := 4) C.1.1 C.1.2.1 C.1.2.2.2.2 in_X1 C.1.2.2.2.1 C.2.1 w.1 0 rfl rfl 1 (by decide) (C.1.2.2.2.2 _ q170) (fun _ h9 => h9) rfl hdg kk
theorem yg_siz (C : om_C p m c cc nL s args RX1 D d A) (w : om_H D A s (om_Y h d vl bs len siz) H locs) (hdg : decode cc pc = .ok (.getfield 16, 3)) (kk : W p l e R s m args below meth c H locs cells slots Q (F0 m (pc + 3) ls (.int siz :: rest))) : W p l e R s m args below meth c H locs cells slots Q (F0 m pc ls (.ref (h 0) :: rest)) :=
  va_get (D := D) (ci := 1) (v := .int siz) (C := RX1) (T := TX1) (N := 4) C.1.1 C.1.2.1 C.1.2.2.2.2 in_X1 C.1.2.2.2.1 C.2.1 w.1 0 rfl rfl 2 (by decide) (C.1.2.2.2.2 _ q171) (fun _ h9 => h9) rfl hdg kk
theorem yg_bs (C : om_C p m c cc nL s args RX1 D d A) (w : om_H D A s (om_Y h d vl bs len siz) H locs) (hdg : decode cc pc = .ok (.getfield 13, 3)) (kk : W p l e R s m args below meth c H locs cells slots Q (F0 m (pc + 3) ls (.ref (h 2) :: rest))) : W p l e R s m args below meth c H locs cells slots Q (F0 m pc ls (.ref (h 0) :: rest)) :=
  va_get (D := D) (ci := 1) (v := .ref (h 2)) (C := RX1) (T := TX1) (N := 4) C.1.1 C.1.2.1 C.1.2.2.2.2 in_X1 C.1.2.2.2.1 C.2.1 w.1 0 rfl rfl 3 (by decide) (C.1.2.2.2.2 _ q172) (fun _ h9 => h9) rfl hdg kk
theorem yp_len {v : Int32} (C : om_C p m c cc nL s args RX1 D d A) (w : om_H D A s (om_Y h d vl bs len siz) H locs) (hdg : decode cc pc = .ok (.putfield 20, 3)) (kk : ∀ (H1 : Heap) (locs1 : List Loc), om_H D A s (om_Y h d vl bs v siz) H1 locs1 → W p l e R s m args below meth c H1 locs1 cells slots Q (F0 m (pc + 3) ls rest)) : W p l e R s m args below meth c H locs cells slots Q (F0 m pc ls (.int v :: .ref (h 0) :: rest)) :=
  va_put (D := D) (ci := 1) (v := .int v) (ty := .int) (C := RX1) (T := TX1) (N := 4) C.1.1 C.1.2.1 C.1.2.2.2.2 in_X1 tyX1 tyX1_ok nmX1 C.1.2.2.2.1 C.2.1 w.1 w.2.1 w.2.2 0 rfl rfl 1 (by decide) (C.1.2.2.2.2 _ q170) (fun _ h9 => h9) rfl (by decide +kernel) rfl rfl (Nat.le_of_ble_eq_true rfl) hdg (fun H1 locs1 hP hD hS => kk H1 locs1 ⟨hP, hD, hS⟩)
theorem yp_siz {v : Int32} (C : om_C p m c cc nL s args RX1 D d A) (w : om_H D A s (om_Y h d vl bs len siz) H locs) (hdg : decode cc pc = .ok (.putfield 16, 3)) (kk : ∀ (H1 : Heap) (locs1 : List Loc), om_H D A s (om_Y h d vl bs len v) H1 locs1 → W p l e R s m args below meth c H1 locs1 cells slots Q (F0 m (pc + 3) ls rest)) : W p l e R s m args below meth c H locs cells slots Q (F0 m pc ls (.int v :: .ref (h 0) :: rest)) :=
  va_put (D := D) (ci := 1) (v := .int v) (ty := .int) (C := RX1) (T := TX1) (N := 4) C.1.1 C.1.2.1 C.1.2.2.2.2 in_X1 tyX1 tyX1_ok nmX1 C.1.2.2.2.1 C.2.1 w.1 w.2.1 w.2.2 0 rfl rfl 2 (by decide) (C.1.2.2.2.2 _ q171) (fun _ h9 => h9) rfl (by decide +kernel) rfl rfl (Nat.le_of_ble_eq_true rfl) hdg (fun H1 locs1 hP hD hS => kk H1 locs1 ⟨hP, hD, hS⟩)
theorem xl_tx (C : om_C p m c cc nL s args own D d A) (w : om_H D A s (om_X h d tx mt pt bl ab fl len siz kn cd) H locs) {i : Nat} (hi : i < 60) (hdg : decode cc pc = .ok (.iaload, 1)) (kk : W p l e R s m args below meth c H locs cells slots Q (F0 m (pc + 1) ls (.int (tx i) :: rest))) : W p l e R s m args below meth c H locs cells slots Q (F0 m pc ls (.int (nI i) :: .ref (h 1) :: rest)) :=
  om_iald 1 rfl C w hi (by decide) hdg kk
theorem xs_tx (C : om_C p m c cc nL s args own D d A) (w : om_H D A s (om_X h d tx mt pt bl ab fl len siz kn cd) H locs) {i : Nat} {v : Int32} (hi : i < 60) (hdg : decode cc pc = .ok (.iastore, 1)) (kk : ∀ (H1 : Heap) (locs1 : List Loc), om_H D A s (om_X h d (upd tx i v) mt pt bl ab fl len siz kn cd) H1 locs1 → W p l e R s m args below meth c H1 locs1 cells slots Q (F0 m (pc + 1) ls rest)) : W p l e R s m args below meth c H locs cells slots Q (F0 m pc ls (.int v :: .int (nI i) :: .ref (h 1) :: rest)) :=
  om_iast 1 rfl C w hi (by decide) hdg kk
theorem xl_mt (C : om_C p m c cc nL s args own D d A) (w : om_H D A s (om_X h d tx mt pt bl ab fl len siz kn cd) H locs) {i : Nat} (hi : i < 60) (hdg : decode cc pc = .ok (.iaload, 1)) (kk : W p l e R s m args below meth c H locs cells slots Q (F0 m (pc + 1) ls (.int (mt i) :: rest))) : W p l e R s m args below meth c H locs cells slots Q (F0 m pc ls (.int (nI i) :: .ref (h 2) :: rest)) :=
  om_iald 2 rfl C w hi (by decide) hdg kk
theorem xs_mt (C : om_C p m c cc nL s args own D d A) (w : om_H D A s (om_X h d tx mt pt bl ab fl len siz kn cd) H locs) {i : Nat} {v : Int32} (hi : i < 60) (hdg : decode cc pc = .ok (.iastore, 1)) (kk : ∀ (H1 : Heap) (locs1 : List Loc), om_H D A s (om_X h d tx (upd mt i v) pt bl ab fl len siz kn cd) H1 locs1 → W p l e R s m args below meth c H1 locs1 cells slots Q (F0 m (pc + 1) ls rest)) : W p l e R s m args below meth c H locs cells slots Q (F0 m pc ls (.int v :: .int (nI i) :: .ref (h 2) :: rest)) :=
  om_iast 2 rfl C w hi (by decide) hdg kk
theorem xl_pt (C : om_C p m c cc nL s args own D d A) (w : om_H D A s (om_X h d tx mt pt bl ab fl len siz kn cd) H locs) {i : Nat} (hi : i < 10) (hdg : decode cc pc = .ok (.iaload, 1)) (kk : W p l e R s m args below meth c H locs cells slots Q (F0 m (pc + 1) ls (.int (pt i) :: rest))) : W p l e R s m args below meth c H locs cells slots Q (F0 m pc ls (.int (nI i) :: .ref (h 3) :: rest)) :=
  om_iald 3 rfl C w hi (by decide) hdg kk
theorem xs_pt (C : om_C p m c cc nL s args own D d A) (w : om_H D A s (om_X h d tx mt pt bl ab fl len siz kn cd) H locs) {i : Nat} {v : Int32} (hi : i < 10) (hdg : decode cc pc = .ok (.iastore, 1)) (kk : ∀ (H1 : Heap) (locs1 : List Loc), om_H D A s (om_X h d tx mt (upd pt i v) bl ab fl len siz kn cd) H1 locs1 → W p l e R s m args below meth c H1 locs1 cells slots Q (F0 m (pc + 1) ls rest)) : W p l e R s m args below meth c H locs cells slots Q (F0 m pc ls (.int v :: .int (nI i) :: .ref (h 3) :: rest)) :=
  om_iast 3 rfl C w hi (by decide) hdg kk
theorem xl_bl (C : om_C p m c cc nL s args own D d A) (w : om_H D A s (om_X h d tx mt pt bl ab fl len siz kn cd) H locs) {i : Nat} (hi : i < 10) (hdg : decode cc pc = .ok (.iaload, 1)) (kk : W p l e R s m args below meth c H locs cells slots Q (F0 m (pc + 1) ls (.int (bl i) :: rest))) : W p l e R s m args below meth c H locs cells slots Q (F0 m pc ls (.int (nI i) :: .ref (h 4) :: rest)) :=
  om_iald 4 rfl C w hi (by decide) hdg kk
theorem xs_bl (C : om_C p m c cc nL s args own D d A) (w : om_H D A s (om_X h d tx mt pt bl ab fl len siz kn cd) H locs) {i : Nat} {v : Int32} (hi : i < 10) (hdg : decode cc pc = .ok (.iastore, 1)) (kk : ∀ (H1 : Heap) (locs1 : List Loc), om_H D A s (om_X h d tx mt pt (upd bl i v) ab fl len siz kn cd) H1 locs1 → W p l e R s m args below meth c H1 locs1 cells slots Q (F0 m (pc + 1) ls rest)) : W p l e R s m args below meth c H locs cells slots Q (F0 m pc ls (.int v :: .int (nI i) :: .ref (h 4) :: rest)) :=
  om_iast 4 rfl C w hi (by decide) hdg kk
theorem xl_ab (C : om_C p m c cc nL s args own D d A) (w : om_H D A s (om_X h d tx mt pt bl ab fl len siz kn cd) H locs) {i : Nat} (hi : i < 10) (hdg : decode cc pc = .ok (.iaload, 1)) (kk : W p l e R s m args below meth c H locs cells slots Q (F0 m (pc + 1) ls (.int (ab i) :: rest))) : W p l e R s m args below meth c H locs cells slots Q (F0 m pc ls (.int (nI i) :: .ref (h 5) :: rest)) :=
  om_iald 5 rfl C w hi (by decide) hdg kk
theorem xs_ab (C : om_C p m c cc nL s args own D d A) (w : om_H D A s (om_X h d tx mt pt bl ab fl len siz kn cd) H locs) {i : Nat} {v : Int32} (hi : i < 10) (hdg : decode cc pc = .ok (.iastore, 1)) (kk : ∀ (H1 : Heap) (locs1 : List Loc), om_H D A s (om_X h d tx mt pt bl (upd ab i v) fl len siz kn cd) H1 locs1 → W p l e R s m args below meth c H1 locs1 cells slots Q (F0 m (pc + 1) ls rest)) : W p l e R s m args below meth c H locs cells slots Q (F0 m pc ls (.int v :: .int (nI i) :: .ref (h 5) :: rest)) :=
  om_iast 5 rfl C w hi (by decide) hdg kk
theorem xl_fl (C : om_C p m c cc nL s args own D d A) (w : om_H D A s (om_X h d tx mt pt bl ab fl len siz kn cd) H locs) {i : Nat} (hi : i < 11) (hdg : decode cc pc = .ok (.iaload, 1)) (kk : W p l e R s m args below meth c H locs cells slots Q (F0 m (pc + 1) ls (.int (fl i) :: rest))) : W p l e R s m args below meth c H locs cells slots Q (F0 m pc ls (.int (nI i) :: .ref (h 6) :: rest)) :=
  om_iald 6 rfl C w hi (by decide) hdg kk
theorem xs_fl (C : om_C p m c cc nL s args own D d A) (w : om_H D A s (om_X h d tx mt pt bl ab fl len siz kn cd) H locs) {i : Nat} {v : Int32} (hi : i < 11) (hdg : decode cc pc = .ok (.iastore, 1)) (kk : ∀ (H1 : Heap) (locs1 : List Loc), om_H D A s (om_X h d tx mt pt bl ab (upd fl i v) len siz kn cd) H1 locs1 → W p l e R s m args below meth c H1 locs1 cells slots Q (F0 m (pc + 1) ls rest)) : W p l e R s m args below meth c H locs cells slots Q (F0 m pc ls (.int v :: .int (nI i) :: .ref (h 6) :: rest)) :=
  om_iast 6 rfl C w hi (by decide) hdg kk
theorem yl_vl (C : om_C p m c cc nL s args own D d A) (w : om_H D A s (om_Y h d vl bs len siz) H locs) {i : Nat} (hi : i < 70) (hdg : decode cc pc = .ok (.iaload, 1)) (kk : W p l e R s m args below meth c H locs cells slots Q (F0 m (pc + 1) ls (.int (vl i) :: rest))) : W p l e R s m args below meth c H locs cells slots Q (F0 m pc ls (.int (nI i) :: .ref (h 1) :: rest)) :=
  om_iald 1 rfl C w hi (by decide) hdg kk
theorem ys_vl (C : om_C p m c cc nL s args own D d A) (w : om_H D A s (om_Y h d vl bs len siz) H locs) {i : Nat} {v : Int32} (hi : i < 70) (hdg : decode cc pc = .ok (.iastore, 1)) (kk : ∀ (H1 : Heap) (locs1 : List Loc), om_H D A s (om_Y h d (upd vl i v) bs len siz) H1 locs1 → W p l e R s m args below meth c H1 locs1 cells slots Q (F0 m (pc + 1) ls rest)) : W p l e R s m args below meth c H locs cells slots Q (F0 m pc ls (.int v :: .int (nI i) :: .ref (h 1) :: rest)) :=
  om_iast 1 rfl C w hi (by decide) hdg kk
theorem yl_bs (C : om_C p m c cc nL s args own D d A) (w : om_H D A s (om_Y h d vl bs len siz) H locs) {i : Nat} (hi : i < 61) (hdg : decode cc pc = .ok (.iaload, 1)) (kk : W p l e R s m args below meth c H locs cells slots Q (F0 m (pc + 1) ls (.int (bs i) :: rest))) : W p l e R s m args below meth c H locs cells slots Q (F0 m pc ls (.int (nI i) :: .ref (h 2) :: rest)) :=
  om_iald 2 rfl C w hi (by decide) hdg kk
theorem ys_bs (C : om_C p m c cc nL s args own D d A) (w : om_H D A s (om_Y h d vl bs len siz) H locs) {i : Nat} {v : Int32} (hi : i < 61) (hdg : decode cc pc = .ok (.iastore, 1)) (kk : ∀ (H1 : Heap) (locs1 : List Loc), om_H D A s (om_Y h d vl (upd bs i v) len siz) H1 locs1 → W p l e R s m args below meth c H1 locs1 cells slots Q (F0 m (pc + 1) ls rest)) : W p l e R s m args below meth c H locs cells slots Q (F0 m pc ls (.int v :: .int (nI i) :: .ref (h 2) :: rest)) :=
  om_iast 2 rfl C w hi (by decide) hdg kk
end OM
end
section
/-! more rows: join points, orders, the neighbours' search -/
theorem om_nle {a b : Int32} (h : ¬ a ≤ b) : b < a := by
  rw [Int32.le_iff_toInt_le] at h
  rw [Int32.lt_iff_toInt_lt]
  omega
theorem om_nlt {a b : Int32} (h : a ≤ b) : ¬ b < a := by
  rw [Int32.le_iff_toInt_le] at h
  rw [Int32.lt_iff_toInt_lt]
  omega
theorem om_lne {a b : Int32} (h : ¬ a < b) : b ≤ a := by
  rw [Int32.lt_iff_toInt_lt] at h
  rw [Int32.le_iff_toInt_le]
  omega
theorem om_ltn {a b : Int32} (h : a < b) : ¬ b ≤ a := by
  rw [Int32.lt_iff_toInt_lt] at h
  rw [Int32.le_iff_toInt_le]
  omega
theorem om_letr {a b c : Int32} (h : a ≤ b) (h2 : b ≤ c) : a ≤ c := by
  rw [Int32.le_iff_toInt_le] at h h2 ⊢
  omega
theorem om_ltle {a b : Int32} (h : a < b) : a ≤ b := by
  rw [Int32.lt_iff_toInt_lt] at h
  rw [Int32.le_iff_toInt_le]
  omega
theorem om_rfl {a : Int32} : a ≤ a := by
  rw [Int32.le_iff_toInt_le]
  omega
section OJ
variable {p : Program} {l : Launch} {e : Env} {R : Room} {s : State} {m : MethodId} {args : Array Value} {below : List Frame} {meth : Method} {c : Code} {H : Heap} {locs : List Loc} {cells slots : Nat} {Q : State → Prop} {g : JFrame}
theorem om_join1 {α : Type} {pc2 : Nat} (I : α → Heap → List Loc → Array Slot → Prop) (k : ∀ (a : α) (H : Heap) (locs : List Loc) (ls : Array Slot), I a H locs ls → W p l e R s m args below meth c H locs cells slots Q (F0 m pc2 ls []))
    (main : (∀ (a : α) (H : Heap) (locs : List Loc) (ls : Array Slot), I a H locs ls → W p l e R s m args below meth c H locs cells slots Q (F0 m pc2 ls [])) → W p l e R s m args below meth c H locs cells slots Q g) : W p l e R s m args below meth c H locs cells slots Q g := main k
theorem om_join2 {α β : Type} {pc2 : Nat} (I : α → β → Heap → List Loc → Array Slot → Prop) (k : ∀ (a : α) (b : β) (H : Heap) (locs : List Loc) (ls : Array Slot), I a b H locs ls → W p l e R s m args below meth c H locs cells slots Q (F0 m pc2 ls []))
    (main : (∀ (a : α) (b : β) (H : Heap) (locs : List Loc) (ls : Array Slot), I a b H locs ls → W p l e R s m args below meth c H locs cells slots Q (F0 m pc2 ls [])) → W p l e R s m args below meth c H locs cells slots Q g) : W p l e R s m args below meth c H locs cells slots Q g := main k
theorem om_join3 {α β γ : Type} {pc2 : Nat} (I : α → β → γ → Heap → List Loc → Array Slot → Prop) (k : ∀ (a : α) (b : β) (z : γ) (H : Heap) (locs : List Loc) (ls : Array Slot), I a b z H locs ls → W p l e R s m args below meth c H locs cells slots Q (F0 m pc2 ls []))
    (main : (∀ (a : α) (b : β) (z : γ) (H : Heap) (locs : List Loc) (ls : Array Slot), I a b z H locs ls → W p l e R s m args below meth c H locs cells slots Q (F0 m pc2 ls [])) → W p l e R s m args below meth c H locs cells slots Q g) : W p l e R s m args below meth c H locs cells slots Q g := main k
end OJ
def om_bej (P : Nat → Int32) (i j : Nat) (b : Int32) : Prop := (b = -1 ∧ ∀ t, t < j → ¬ P t ≤ P i) ∨ ∃ q, q < j ∧ b = nI q ∧ P q ≤ P i ∧ ∀ t, t < j → P t ≤ P i → P t ≤ P q
def om_abj (P : Nat → Int32) (i j : Nat) (b : Int32) : Prop := (b = -1 ∧ ∀ t, t < j → ¬ P i ≤ P t) ∨ ∃ q, q < j ∧ b = nI q ∧ P i ≤ P q ∧ ∀ t, t < j → P i ≤ P t → P q ≤ P t
theorem om_bej_skip {P : Nat → Int32} {i j : Nat} {b : Int32} (h : om_bej P i j b) (hj : ¬ P j ≤ P i) : om_bej P i (j + 1) b := by
  rcases h with ⟨h1, h2⟩ | ⟨q, h1, h2, h3, h4⟩
  · exact Or.inl ⟨h1, lt_s h2 hj⟩
  · exact Or.inr ⟨q, by omega, h2, h3, lt_s h4 (fun z => absurd z hj)⟩
theorem om_bej_new {P : Nat → Int32} {i j : Nat} {b : Int32} (h : om_bej P i j b) (hj : P j ≤ P i) (hb : ∀ q, q < j → b = nI q → ¬ P j ≤ P q) : om_bej P i (j + 1) (nI j) := by
  refine Or.inr ⟨j, by omega, rfl, hj, ?_⟩
  rcases h with ⟨h1, h2⟩ | ⟨q, h1, h2, h3, h4⟩
  · exact lt_s (fun t ht z => absurd z (h2 t ht)) (fun _ => om_rfl)
  · exact lt_s (fun t ht z => om_letr (h4 t ht z) (om_ltle (om_nle (hb q h1 h2)))) (fun _ => om_rfl)
theorem om_bej_keep {P : Nat → Int32} {i j q : Nat} {b : Int32} (h : om_bej P i j b) (hq : q < j) (hj2 : j < 2 ^ 31) (hb : b = nI q) (hj : P j ≤ P q) : om_bej P i (j + 1) b := by
  rcases h with ⟨h1, h2⟩ | ⟨u, h1, h2, h3, h4⟩
  · rw [hb] at h1
    exact absurd h1 (om_m1 (by omega))
  · have e : u = q := (nI_eq (by omega) (by omega)).mp (h2.symm.trans hb)
    subst e
    exact Or.inr ⟨u, by omega, hb, h3, lt_s h4 (fun _ => hj)⟩
theorem om_abj_skip {P : Nat → Int32} {i j : Nat} {b : Int32} (h : om_abj P i j b) (hj : ¬ P i ≤ P j) : om_abj P i (j + 1) b := by
  rcases h with ⟨h1, h2⟩ | ⟨q, h1, h2, h3, h4⟩
  · exact Or.inl ⟨h1, lt_s h2 hj⟩
  · exact Or.inr ⟨q, by omega, h2, h3, lt_s h4 (fun z => absurd z hj)⟩
theorem om_abj_new {P : Nat → Int32} {i j : Nat} {b : Int32} (h : om_abj P i j b) (hj : P i ≤ P j) (hb : ∀ q, q < j → b = nI q → ¬ P q ≤ P j) : om_abj P i (j + 1) (nI j) := by
  refine Or.inr ⟨j, by omega, rfl, hj, ?_⟩
  rcases h with ⟨h1, h2⟩ | ⟨q, h1, h2, h3, h4⟩
  · exact lt_s (fun t ht z => absurd z (h2 t ht)) (fun _ => om_rfl)
  · exact lt_s (fun t ht z => om_letr (om_ltle (om_nle (hb q h1 h2))) (h4 t ht z)) (fun _ => om_rfl)
theorem om_abj_keep {P : Nat → Int32} {i j q : Nat} {b : Int32} (h : om_abj P i j b) (hq : q < j) (hj2 : j < 2 ^ 31) (hb : b = nI q) (hj : P q ≤ P j) : om_abj P i (j + 1) b := by
  rcases h with ⟨h1, h2⟩ | ⟨u, h1, h2, h3, h4⟩
  · rw [hb] at h1
    exact absurd h1 (om_m1 (by omega))
  · have e : u = q := (nI_eq (by omega) (by omega)).mp (h2.symm.trans hb)
    subst e
    exact Or.inr ⟨u, by omega, hb, h3, lt_s h4 (fun _ => hj)⟩
theorem om_bej_ix {P : Nat → Int32} {i j : Nat} {b : Int32} (h : om_bej P i j b) : b = -1 ∨ ∃ q, q < j ∧ b = nI q := by
  rcases h with ⟨h1, h2⟩ | ⟨q, h1, h2, -⟩
  · exact Or.inl h1
  · exact Or.inr ⟨q, h1, h2⟩
theorem om_abj_ix {P : Nat → Int32} {i j : Nat} {b : Int32} (h : om_abj P i j b) : b = -1 ∨ ∃ q, q < j ∧ b = nI q := by
  rcases h with ⟨h1, h2⟩ | ⟨q, h1, h2, -⟩
  · exact Or.inl h1
  · exact Or.inr ⟨q, h1, h2⟩
theorem om_bel_ix {P : Nat → Int32} {i : Nat} {b : Int32} (h : om_bel P i b) : b = -1 ∨ ∃ q, q < i ∧ b = nI q := om_bej_ix (j := i) h
theorem om_abo_ix {P : Nat → Int32} {i : Nat} {b : Int32} (h : om_abo P i b) : b = -1 ∨ ∃ q, q < i ∧ b = nI q := om_abj_ix (j := i) h
end
section
set_option maxHeartbeats 4000000 in
set_option maxRecDepth 100000 in
/-- changed(): the tables are not known any more -/
theorem mX_changed (l : Launch) (D : va_G) (d : ClassId) (h : Nat → Nat) (tx mt pt bl ab fl : Nat → Int32) (len siz kn cd : Int32)  : om_Mv l yX0_changed cX0_changed 1 none { frames := 0, cells := 0, slots := 0, locals := 0 } D d [.ref (h 0)] (om_X h d tx mt pt bl ab fl len siz kn cd) (fun (_ : Unit) => True) (fun _ => om_X h d tx mt pt bl ab fl len siz (nI 0) (nI 0)) := by
  intro sz
  refine om_enter (by decide) (Nat.le_of_ble_eq_true rfl) ?_
  intro p e s m below meth c ls C hr hlocks w hl
  generalize va_A (om_X h d tx mt pt bl ab fl len siz kn cd) sz = A at C w ⊢
  have C : om_C p m c cX0_changed 1 s _ RX0 D d A := C
  have hx := C.1.1
  have hb := C.1.2.1
  have hl : lv_has ls 1 [(0, .ref (h 0))] := hl
  refine lv_aload_n hx hb dX0_changed_0 rfl (lv_at hl 0 rfl) ?_
  refine lv_iconst (v := nI 0) hx hb dX0_changed_1 (by decide) ?_
  refine xp_cd C w rfl rfl dX0_changed_2 (fun H locs w => ?_)
  refine lv_aload_n hx hb dX0_changed_5 rfl (lv_at hl 0 rfl) ?_
  refine lv_iconst (v := nI 0) hx hb dX0_changed_6 (by decide) ?_
  refine xp_kn C w dX0_changed_7 (fun H locs w => ?_)
  exact om_vret () C hr hlocks w (trivial) dX0_changed_10
set_option maxHeartbeats 4000000 in
set_option maxRecDepth 100000 in
/-- endsAt(x) -/
theorem mX_endsAt (l : Launch) (D : va_G) (d : ClassId) (h : Nat → Nat) (tx mt pt bl ab fl : Nat → Int32) (len kn cd : Int32) (k x : Nat) (hk : k ≤ 10) (hp : x < 60) : om_Mi l yX0_endsAt cX0_endsAt 2 (some .boolean) { frames := 0, cells := 0, slots := 0, locals := 0 } D d [.ref (h 0), .int (nI x)] (om_X h d tx mt pt bl ab fl len (nI k) kn cd) (fun (r : Int32) (_ : Unit) => r = bI (decide (0 < k) && decide (mt x = nI k))) (fun _ => om_X h d tx mt pt bl ab fl len (nI k) kn cd) := by
  intro sz
  refine om_enter (by decide) (Nat.le_of_ble_eq_true rfl) ?_
  intro p e s m below meth c ls C hr hlocks w hl
  generalize va_A (om_X h d tx mt pt bl ab fl len (nI k) kn cd) sz = A at C w ⊢
  have C : om_C p m c cX0_endsAt 2 s _ RX0 D d A := C
  have hx := C.1.1
  have hb := C.1.2.1
  have hl : lv_has ls 2 [(0, .ref (h 0)), (1, .int (nI x))] := hl
  refine lv_aload_n hx hb dX0_endsAt_0 rfl (lv_at hl 0 rfl) ?_
  refine xg_siz C w dX0_endsAt_1 ?_
  refine om_if_le (tgt := 24) hx hb dX0_endsAt_4 (by decide) (by omega) (fun c_4 => ?_) (fun c_4 => ?_)
  · refine lv_iconst (v := nI 0) hx hb dX0_endsAt_24 (by decide) ?_
    exact om_zret (b := false) () C hr hlocks w (congrArg bI (by simp [c_4])) dX0_endsAt_25
  · refine lv_aload_n hx hb dX0_endsAt_7 rfl (lv_at hl 0 rfl) ?_
    refine xg_mt C w dX0_endsAt_8 ?_
    refine lv_iload_n hx hb dX0_endsAt_11 rfl (lv_at hl 1 rfl) ?_
    refine xl_mt C w (i := x) (by omega) dX0_endsAt_12 ?_
    refine lv_aload_n hx hb dX0_endsAt_13 rfl (lv_at hl 0 rfl) ?_
    refine xg_siz C w dX0_endsAt_14 ?_
    refine lv_icmp_ne (tgt := 24) hx hb dX0_endsAt_17 (by decide) (fun c_17 => ?_) (fun c_17 => ?_)
    · refine lv_iconst (v := nI 0) hx hb dX0_endsAt_24 (by decide) ?_
      exact om_zret (b := false) () C hr hlocks w (congrArg bI (by simp [c_4, c_17])) dX0_endsAt_25
    · refine lv_iconst (v := nI 1) hx hb dX0_endsAt_20 (by decide) ?_
      refine lv_goto (tgt := 25) hx hb dX0_endsAt_21 (by decide) ?_
      exact om_zret (b := true) () C hr hlocks w (congrArg bI (by simp [c_4, c_17])) dX0_endsAt_25
set_option maxHeartbeats 4000000 in
set_option maxRecDepth 100000 in
/-- compares(K, v, lo, up) -/
theorem mX_compares (l : Launch) (D : va_G) (d : ClassId) (h : Nat → Nat) (tx mt pt bl ab fl : Nat → Int32) (len siz kn cd : Int32) (K : Nat) (v lo up : Int32) (hK : K < 10) (hbl : bl K = -1 ∨ ∃ q, q < 10 ∧ bl K = nI q) : om_Mi l yX0_compares cX0_compares 7 (some .boolean) { frames := 0, cells := 0, slots := 0, locals := 0 } D d [.ref (h 0), .int (nI K), .int v, .int lo, .int up] (om_X h d tx mt pt bl ab fl len siz kn cd) (fun (r : Int32) (_ : Unit) => r = bI (om_cmp pt K (bl K) (ab K) v lo up)) (fun _ => om_X h d tx mt pt bl ab fl len siz kn cd) := by
  intro sz
  refine om_enter (by decide) (Nat.le_of_ble_eq_true rfl) ?_
  intro p e s m below meth c ls C hr hlocks w hl
  generalize va_A (om_X h d tx mt pt bl ab fl len siz kn cd) sz = A at C w ⊢
  have C : om_C p m c cX0_compares 7 s _ RX0 D d A := C
  have hx := C.1.1
  have hb := C.1.2.1
  have hl : lv_has ls 7 [(0, .ref (h 0)), (1, .int (nI K)), (2, .int v), (3, .int lo), (4, .int up)] := hl
  refine lv_aload_n hx hb dX0_compares_0 rfl (lv_at hl 0 rfl) ?_
  refine xg_bl C w dX0_compares_1 ?_
  refine lv_iload_n hx hb dX0_compares_4 rfl (lv_at hl 1 rfl) ?_
  refine xl_bl C w (i := K) (by omega) dX0_compares_5 ?_
  refine lv_istore (lv' := [(5, .int (bl K)), (0, .ref (h 0)), (1, .int (nI K)), (2, .int v), (3, .int lo), (4, .int up)]) hx hb dX0_compares_6 hl (by decide) rfl (fun ls hl => ?_)
  refine lv_aload_n hx hb dX0_compares_8 rfl (lv_at hl 1 rfl) ?_
  refine xg_ab C w dX0_compares_9 ?_
  refine lv_iload_n hx hb dX0_compares_12 rfl (lv_at hl 2 rfl) ?_
  refine xl_ab C w (i := K) (by omega) dX0_compares_13 ?_
  refine lv_istore (lv' := [(6, .int (ab K)), (5, .int (bl K)), (0, .ref (h 0)), (1, .int (nI K)), (2, .int v), (3, .int lo), (4, .int up)]) hx hb dX0_compares_14 hl (by decide) rfl (fun ls hl => ?_)
  refine lv_iload hx hb dX0_compares_16 (lv_at hl 1 rfl) ?_
  refine lv_iconst (v := (-1)) hx hb dX0_compares_18 (by decide) ?_
  refine lv_icmp_eq (tgt := 49) hx hb dX0_compares_19 (by decide) (fun c_19 => ?_) (fun c_19 => ?_)
  · refine lv_iload hx hb dX0_compares_49 (lv_at hl 1 rfl) ?_
    refine lv_iconst (v := (-1)) hx hb dX0_compares_51 (by decide) ?_
    refine lv_icmp_eq (tgt := 60) hx hb dX0_compares_52 (by decide) (fun c_52 => ?_) (fun c_52 => ?_)
    · refine lv_iload hx hb dX0_compares_60 (lv_at hl 0 rfl) ?_
      refine lv_iconst (v := (-1)) hx hb dX0_compares_62 (by decide) ?_
      refine lv_icmp_eq (tgt := 72) hx hb dX0_compares_63 (by decide) (fun c_63 => ?_) (fun c_63 => ?_)
      · refine lv_iconst (v := nI 1) hx hb dX0_compares_72 (by decide) ?_
        refine lv_goto (tgt := 77) hx hb dX0_compares_73 (by decide) ?_
        exact om_zret (b := true) () C hr hlocks w (congrArg bI (by simp [om_cmp, c_19, c_63])) dX0_compares_77
      · refine lv_iload_n hx hb dX0_compares_66 rfl (lv_at hl 4 rfl) ?_
        refine lv_iload hx hb dX0_compares_67 (lv_at hl 6 rfl) ?_
        refine lv_icmp_ge (tgt := 76) hx hb dX0_compares_69 (by decide) (fun c_69 => ?_) (fun c_69 => ?_)
        · have c_69 := om_nlt c_69
          refine lv_iconst (v := nI 0) hx hb dX0_compares_76 (by decide) ?_
          exact om_zret (b := false) () C hr hlocks w (congrArg bI (by simp [om_cmp, c_19, c_63, c_69])) dX0_compares_77
        · have c_69 := om_nle c_69
          refine lv_iconst (v := nI 1) hx hb dX0_compares_72 (by decide) ?_
          refine lv_goto (tgt := 77) hx hb dX0_compares_73 (by decide) ?_
          exact om_zret (b := true) () C hr hlocks w (congrArg bI (by simp [om_cmp, c_19, c_63, c_69])) dX0_compares_77
    · exact absurd c_19 c_52
  · obtain ⟨q, hq, eq⟩ := hbl.resolve_left c_19
    have e1 := om_m1 (q := q) (by omega)
    have e2 := nI_clamp (n := q) (by omega)
    rw [eq] at hl
    refine lv_aload_n hx hb dX0_compares_22 rfl (lv_at hl 2 rfl) ?_
    refine xg_pt C w dX0_compares_23 ?_
    refine lv_iload hx hb dX0_compares_26 (lv_at hl 1 rfl) ?_
    refine xl_pt C w (i := q) (by omega) dX0_compares_28 ?_
    refine lv_aload_n hx hb dX0_compares_29 rfl (lv_at hl 2 rfl) ?_
    refine xg_pt C w dX0_compares_30 ?_
    refine lv_iload_n hx hb dX0_compares_33 rfl (lv_at hl 3 rfl) ?_
    refine xl_pt C w (i := K) (by omega) dX0_compares_34 ?_
    refine lv_icmp_ne (tgt := 49) hx hb dX0_compares_35 (by decide) (fun c_35 => ?_) (fun c_35 => ?_)
    · refine lv_iload hx hb dX0_compares_49 (lv_at hl 1 rfl) ?_
      refine lv_iconst (v := (-1)) hx hb dX0_compares_51 (by decide) ?_
      refine lv_icmp_eq (tgt := 60) hx hb dX0_compares_52 (by decide) (fun c_52 => ?_) (fun c_52 => ?_)
      · exact absurd c_52 e1
      · refine lv_iload_n hx hb dX0_compares_55 rfl (lv_at hl 5 rfl) ?_
        refine lv_iload_n hx hb dX0_compares_56 rfl (lv_at hl 4 rfl) ?_
        refine lv_icmp_ge (tgt := 76) hx hb dX0_compares_57 (by decide) (fun c_57 => ?_) (fun c_57 => ?_)
        · have c_57 := om_nlt c_57
          refine lv_iconst (v := nI 0) hx hb dX0_compares_76 (by decide) ?_
          exact om_zret (b := false) () C hr hlocks w (congrArg bI (by simp [om_cmp, eq, e1, e2, c_35, c_57])) dX0_compares_77
        · have c_57 := om_nle c_57
          refine lv_iload hx hb dX0_compares_60 (lv_at hl 0 rfl) ?_
          refine lv_iconst (v := (-1)) hx hb dX0_compares_62 (by decide) ?_
          refine lv_icmp_eq (tgt := 72) hx hb dX0_compares_63 (by decide) (fun c_63 => ?_) (fun c_63 => ?_)
          · refine lv_iconst (v := nI 1) hx hb dX0_compares_72 (by decide) ?_
            refine lv_goto (tgt := 77) hx hb dX0_compares_73 (by decide) ?_
            exact om_zret (b := true) () C hr hlocks w (congrArg bI (by simp [om_cmp, eq, e1, e2, c_35, c_57, c_63])) dX0_compares_77
          · refine lv_iload_n hx hb dX0_compares_66 rfl (lv_at hl 4 rfl) ?_
            refine lv_iload hx hb dX0_compares_67 (lv_at hl 6 rfl) ?_
            refine lv_icmp_ge (tgt := 76) hx hb dX0_compares_69 (by decide) (fun c_69 => ?_) (fun c_69 => ?_)
            · have c_69 := om_nlt c_69
              refine lv_iconst (v := nI 0) hx hb dX0_compares_76 (by decide) ?_
              exact om_zret (b := false) () C hr hlocks w (congrArg bI (by simp [om_cmp, eq, e1, e2, c_35, c_57, c_63, c_69])) dX0_compares_77
            · have c_69 := om_nle c_69
              refine lv_iconst (v := nI 1) hx hb dX0_compares_72 (by decide) ?_
              refine lv_goto (tgt := 77) hx hb dX0_compares_73 (by decide) ?_
              exact om_zret (b := true) () C hr hlocks w (congrArg bI (by simp [om_cmp, eq, e1, e2, c_35, c_57, c_63, c_69])) dX0_compares_77
    · refine lv_iload_n hx hb dX0_compares_38 rfl (lv_at hl 5 rfl) ?_
      refine lv_iload_n hx hb dX0_compares_39 rfl (lv_at hl 4 rfl) ?_
      refine lv_icmp_ne (tgt := 47) hx hb dX0_compares_40 (by decide) (fun c_40 => ?_) (fun c_40 => ?_)
      · refine lv_iconst (v := nI 0) hx hb dX0_compares_47 (by decide) ?_
        exact om_zret (b := false) () C hr hlocks w (congrArg bI (by simp [om_cmp, eq, e1, e2, c_35, c_40])) dX0_compares_48
      · refine lv_iconst (v := nI 1) hx hb dX0_compares_43 (by decide) ?_
        refine lv_goto (tgt := 48) hx hb dX0_compares_44 (by decide) ?_
        exact om_zret (b := true) () C hr hlocks w (congrArg bI (by simp [om_cmp, eq, e1, e2, c_35, c_40])) dX0_compares_48
set_option maxHeartbeats 4000000 in
set_option maxRecDepth 100000 in
/-- fitsPattern -/
theorem mX_fitsPattern (l : Launch) (D : va_G) (d : ClassId) (h : Nat → Nat) (tx mt pt bl ab fl : Nat → Int32) (len siz kn cd : Int32) (K i : Nat) (hK : K ≤ i) (hK2 : K < 10) (hi : i < 10) (hbl : bl K = -1 ∨ ∃ q, q < K ∧ bl K = nI q) (hab : ab K = -1 ∨ ∃ q, q < K ∧ ab K = nI q) : om_Mi l yX0_fitsPattern cX0_fitsPattern 5 (some .boolean) { frames := 1, cells := 0, slots := 0, locals := 30 } D d [.ref (h 0), .int (nI K), .int (nI i)] (om_X h d tx mt pt bl ab fl len siz kn cd) (fun (r : Int32) (_ : Unit) => r = bI (om_fit pt (fun j => pt (i - K + j)) K (bl K) (ab K))) (fun _ => om_X h d tx mt pt bl ab fl len siz kn cd) := by
  intro sz
  refine om_enter (by decide) (Nat.le_of_ble_eq_true rfl) ?_
  intro p e s m below meth c ls C hr hlocks w hl
  generalize va_A (om_X h d tx mt pt bl ab fl len siz kn cd) sz = A at C w ⊢
  have C : om_C p m c cX0_fitsPattern 5 s _ RX0 D d A := C
  have hx := C.1.1
  have hb := C.1.2.1
  have hl : lv_has ls 5 [(0, .ref (h 0)), (1, .int (nI K)), (2, .int (nI i))] := hl
  refine lv_aload_n hx hb dX0_fitsPattern_0 rfl (lv_at hl 0 rfl) ?_
  refine xg_bl C w dX0_fitsPattern_1 ?_
  refine lv_iload_n hx hb dX0_fitsPattern_4 rfl (lv_at hl 1 rfl) ?_
  refine xl_bl C w (i := K) (by omega) dX0_fitsPattern_5 ?_
  refine lv_iconst (v := (-1)) hx hb dX0_fitsPattern_6 (by decide) ?_
  refine lv_icmp_ne (tgt := 14) hx hb dX0_fitsPattern_7 (by decide) (fun c_7 => ?_) (fun c_7 => ?_)
  · obtain ⟨q, hq, eb⟩ := hbl.resolve_left c_7
    have eq : (bl K).toNatClampNeg = q := by rw [eb]; exact nI_clamp (by omega)
    refine lv_aload_n hx hb dX0_fitsPattern_14 rfl (lv_at hl 0 rfl) ?_
    refine xg_pt C w dX0_fitsPattern_15 ?_
    refine lv_iload_n hx hb dX0_fitsPattern_18 rfl (lv_at hl 2 rfl) ?_
    refine lv_iload_n hx hb dX0_fitsPattern_19 rfl (lv_at hl 1 rfl) ?_
    refine om_isub hx hb (by omega) dX0_fitsPattern_20 ?_
    refine lv_aload_n hx hb dX0_fitsPattern_21 rfl (lv_at hl 0 rfl) ?_
    refine xg_bl C w dX0_fitsPattern_22 ?_
    refine lv_iload_n hx hb dX0_fitsPattern_25 rfl (lv_at hl 1 rfl) ?_
    refine xl_bl C w (i := K) (by omega) dX0_fitsPattern_26 ?_
    refine lv_topi (fun y_ ey_ => ?_)
    have ey_ : y_ = nI q := ey_.trans (eb)
    subst ey_
    refine om_iadd hx hb dX0_fitsPattern_27 ?_
    refine xl_pt C w (i := i - K + q) (by omega) dX0_fitsPattern_28 ?_
    refine lv_istore_n (lv' := [(3, .int (pt (i - K + q))), (0, .ref (h 0)), (1, .int (nI K)), (2, .int (nI i))]) hx hb dX0_fitsPattern_29 rfl hl (by decide) rfl (fun ls hl => ?_)
    refine lv_aload_n hx hb dX0_fitsPattern_30 rfl (lv_at hl 1 rfl) ?_
    refine xg_ab C w dX0_fitsPattern_31 ?_
    refine lv_iload_n hx hb dX0_fitsPattern_34 rfl (lv_at hl 2 rfl) ?_
    refine xl_ab C w (i := K) (by omega) dX0_fitsPattern_35 ?_
    refine lv_iconst (v := (-1)) hx hb dX0_fitsPattern_36 (by decide) ?_
    refine lv_icmp_ne (tgt := 44) hx hb dX0_fitsPattern_37 (by decide) (fun c_37 => ?_) (fun c_37 => ?_)
    · obtain ⟨r, hr2, ea⟩ := hab.resolve_left c_37
      have er : (ab K).toNatClampNeg = r := by rw [ea]; exact nI_clamp (by omega)
      refine lv_aload_n hx hb dX0_fitsPattern_44 rfl (lv_at hl 1 rfl) ?_
      refine xg_pt C w dX0_fitsPattern_45 ?_
      refine lv_iload_n hx hb dX0_fitsPattern_48 rfl (lv_at hl 3 rfl) ?_
      refine lv_iload_n hx hb dX0_fitsPattern_49 rfl (lv_at hl 2 rfl) ?_
      refine om_isub hx hb (by omega) dX0_fitsPattern_50 ?_
      refine lv_aload_n hx hb dX0_fitsPattern_51 rfl (lv_at hl 1 rfl) ?_
      refine xg_ab C w dX0_fitsPattern_52 ?_
      refine lv_iload_n hx hb dX0_fitsPattern_55 rfl (lv_at hl 2 rfl) ?_
      refine xl_ab C w (i := K) (by omega) dX0_fitsPattern_56 ?_
      refine lv_topi (fun y_ ey_ => ?_)
      have ey_ : y_ = nI r := ey_.trans (ea)
      subst ey_
      refine om_iadd hx hb dX0_fitsPattern_57 ?_
      refine xl_pt C w (i := i - K + r) (by omega) dX0_fitsPattern_58 ?_
      refine lv_istore (lv' := [(4, .int (pt (i - K + r))), (3, .int (pt (i - K + q))), (0, .ref (h 0)), (1, .int (nI K)), (2, .int (nI i))]) hx hb dX0_fitsPattern_59 hl (by decide) rfl (fun ls hl => ?_)
      refine lv_aload_n hx hb dX0_fitsPattern_61 rfl (lv_at hl 2 rfl) ?_
      refine lv_iload_n hx hb dX0_fitsPattern_62 rfl (lv_at hl 3 rfl) ?_
      refine lv_aload_n hx hb dX0_fitsPattern_63 rfl (lv_at hl 2 rfl) ?_
      refine xg_pt C w dX0_fitsPattern_64 ?_
      refine lv_iload_n hx hb dX0_fitsPattern_67 rfl (lv_at hl 4 rfl) ?_
      refine xl_pt C w (i := i) (by omega) dX0_fitsPattern_68 ?_
      refine lv_iload_n hx hb dX0_fitsPattern_69 rfl (lv_at hl 1 rfl) ?_
      refine lv_iload hx hb dX0_fitsPattern_70 (lv_at hl 0 rfl) ?_
      refine om_calli (Wr := []) (As := [.int (nI K), .int (pt i), .int (pt (i - K + q)), .int (pt (i - K + r))]) (rest := []) C w (mX_compares l D d h tx mt pt bl ab fl len siz kn cd K (pt i) (pt (i - K + q)) (pt (i - K + r)) (by omega) (hbl.imp id (fun z => by obtain ⟨q, z1, z2⟩ := z; exact ⟨q, by omega, z2⟩))) [0, 1, 2, 3, 4, 5, 6] [] rfl rfl rfl rfl (by decide) rfl rfl (cwV 4 C.1.2.2.2.2 (lw_V q119 q121 qs5 q13 q122) rfl rfl rfl (by decide +kernel) ⟨Nat.le_of_ble_eq_true rfl, Nat.le_of_ble_eq_true rfl⟩) rfl hl.1 rfl (Nat.le_of_ble_eq_true rfl) dX0_fitsPattern_72 ⟨Nat.zero_le _, Nat.zero_le _⟩ (fun r_1 u_1 H locs hp_1 w => ?_)
      subst hp_1
      have w : om_H D A s (om_X h d tx mt pt bl ab fl len siz kn cd) H locs := w
      exact om_zret () C hr hlocks w (congrArg bI (by unfold om_fit; dsimp only; rw [show i - K + K = i by omega, if_neg c_7, eq, if_neg c_37, er])) dX0_fitsPattern_75
    · refine lv_iconst (v := nI 0) hx hb dX0_fitsPattern_40 (by decide) ?_
      refine lv_goto (tgt := 59) hx hb dX0_fitsPattern_41 (by decide) ?_
      refine lv_istore (lv' := [(4, .int (nI 0)), (3, .int (pt (i - K + q))), (0, .ref (h 0)), (1, .int (nI K)), (2, .int (nI i))]) hx hb dX0_fitsPattern_59 hl (by decide) rfl (fun ls hl => ?_)
      refine lv_aload_n hx hb dX0_fitsPattern_61 rfl (lv_at hl 2 rfl) ?_
      refine lv_iload_n hx hb dX0_fitsPattern_62 rfl (lv_at hl 3 rfl) ?_
      refine lv_aload_n hx hb dX0_fitsPattern_63 rfl (lv_at hl 2 rfl) ?_
      refine xg_pt C w dX0_fitsPattern_64 ?_
      refine lv_iload_n hx hb dX0_fitsPattern_67 rfl (lv_at hl 4 rfl) ?_
      refine xl_pt C w (i := i) (by omega) dX0_fitsPattern_68 ?_
      refine lv_iload_n hx hb dX0_fitsPattern_69 rfl (lv_at hl 1 rfl) ?_
      refine lv_iload hx hb dX0_fitsPattern_70 (lv_at hl 0 rfl) ?_
      refine om_calli (Wr := []) (As := [.int (nI K), .int (pt i), .int (pt (i - K + q)), .int (nI 0)]) (rest := []) C w (mX_compares l D d h tx mt pt bl ab fl len siz kn cd K (pt i) (pt (i - K + q)) (nI 0) (by omega) (hbl.imp id (fun z => by obtain ⟨q, z1, z2⟩ := z; exact ⟨q, by omega, z2⟩))) [0, 1, 2, 3, 4, 5, 6] [] rfl rfl rfl rfl (by decide) rfl rfl (cwV 4 C.1.2.2.2.2 (lw_V q119 q121 qs5 q13 q122) rfl rfl rfl (by decide +kernel) ⟨Nat.le_of_ble_eq_true rfl, Nat.le_of_ble_eq_true rfl⟩) rfl hl.1 rfl (Nat.le_of_ble_eq_true rfl) dX0_fitsPattern_72 ⟨Nat.zero_le _, Nat.zero_le _⟩ (fun r_2 u_2 H locs hp_2 w => ?_)
      subst hp_2
      have w : om_H D A s (om_X h d tx mt pt bl ab fl len siz kn cd) H locs := w
      exact om_zret () C hr hlocks w (congrArg bI (by unfold om_fit; dsimp only; rw [show i - K + K = i by omega, if_neg c_7, eq, if_pos c_37])) dX0_fitsPattern_75
  · refine lv_iconst (v := nI 0) hx hb dX0_fitsPattern_10 (by decide) ?_
    refine lv_goto (tgt := 29) hx hb dX0_fitsPattern_11 (by decide) ?_
    refine lv_istore_n (lv' := [(3, .int (nI 0)), (0, .ref (h 0)), (1, .int (nI K)), (2, .int (nI i))]) hx hb dX0_fitsPattern_29 rfl hl (by decide) rfl (fun ls hl => ?_)
    refine lv_aload_n hx hb dX0_fitsPattern_30 rfl (lv_at hl 1 rfl) ?_
    refine xg_ab C w dX0_fitsPattern_31 ?_
    refine lv_iload_n hx hb dX0_fitsPattern_34 rfl (lv_at hl 2 rfl) ?_
    refine xl_ab C w (i := K) (by omega) dX0_fitsPattern_35 ?_
    refine lv_iconst (v := (-1)) hx hb dX0_fitsPattern_36 (by decide) ?_
    refine lv_icmp_ne (tgt := 44) hx hb dX0_fitsPattern_37 (by decide) (fun c_37 => ?_) (fun c_37 => ?_)
    · obtain ⟨r, hr2, ea⟩ := hab.resolve_left c_37
      have er : (ab K).toNatClampNeg = r := by rw [ea]; exact nI_clamp (by omega)
      refine lv_aload_n hx hb dX0_fitsPattern_44 rfl (lv_at hl 1 rfl) ?_
      refine xg_pt C w dX0_fitsPattern_45 ?_
      refine lv_iload_n hx hb dX0_fitsPattern_48 rfl (lv_at hl 3 rfl) ?_
      refine lv_iload_n hx hb dX0_fitsPattern_49 rfl (lv_at hl 2 rfl) ?_
      refine om_isub hx hb (by omega) dX0_fitsPattern_50 ?_
      refine lv_aload_n hx hb dX0_fitsPattern_51 rfl (lv_at hl 1 rfl) ?_
      refine xg_ab C w dX0_fitsPattern_52 ?_
      refine lv_iload_n hx hb dX0_fitsPattern_55 rfl (lv_at hl 2 rfl) ?_
      refine xl_ab C w (i := K) (by omega) dX0_fitsPattern_56 ?_
      refine lv_topi (fun y_ ey_ => ?_)
      have ey_ : y_ = nI r := ey_.trans (ea)
      subst ey_
      refine om_iadd hx hb dX0_fitsPattern_57 ?_
      refine xl_pt C w (i := i - K + r) (by omega) dX0_fitsPattern_58 ?_
      refine lv_istore (lv' := [(4, .int (pt (i - K + r))), (3, .int (nI 0)), (0, .ref (h 0)), (1, .int (nI K)), (2, .int (nI i))]) hx hb dX0_fitsPattern_59 hl (by decide) rfl (fun ls hl => ?_)
      refine lv_aload_n hx hb dX0_fitsPattern_61 rfl (lv_at hl 2 rfl) ?_
      refine lv_iload_n hx hb dX0_fitsPattern_62 rfl (lv_at hl 3 rfl) ?_
      refine lv_aload_n hx hb dX0_fitsPattern_63 rfl (lv_at hl 2 rfl) ?_
      refine xg_pt C w dX0_fitsPattern_64 ?_
      refine lv_iload_n hx hb dX0_fitsPattern_67 rfl (lv_at hl 4 rfl) ?_
      refine xl_pt C w (i := i) (by omega) dX0_fitsPattern_68 ?_
      refine lv_iload_n hx hb dX0_fitsPattern_69 rfl (lv_at hl 1 rfl) ?_
      refine lv_iload hx hb dX0_fitsPattern_70 (lv_at hl 0 rfl) ?_
      refine om_calli (Wr := []) (As := [.int (nI K), .int (pt i), .int (nI 0), .int (pt (i - K + r))]) (rest := []) C w (mX_compares l D d h tx mt pt bl ab fl len siz kn cd K (pt i) (nI 0) (pt (i - K + r)) (by omega) (hbl.imp id (fun z => by obtain ⟨q, z1, z2⟩ := z; exact ⟨q, by omega, z2⟩))) [0, 1, 2, 3, 4, 5, 6] [] rfl rfl rfl rfl (by decide) rfl rfl (cwV 4 C.1.2.2.2.2 (lw_V q119 q121 qs5 q13 q122) rfl rfl rfl (by decide +kernel) ⟨Nat.le_of_ble_eq_true rfl, Nat.le_of_ble_eq_true rfl⟩) rfl hl.1 rfl (Nat.le_of_ble_eq_true rfl) dX0_fitsPattern_72 ⟨Nat.zero_le _, Nat.zero_le _⟩ (fun r_3 u_3 H locs hp_3 w => ?_)
      subst hp_3
      have w : om_H D A s (om_X h d tx mt pt bl ab fl len siz kn cd) H locs := w
      exact om_zret () C hr hlocks w (congrArg bI (by unfold om_fit; dsimp only; rw [show i - K + K = i by omega, if_pos c_7, if_neg c_37, er])) dX0_fitsPattern_75
    · refine lv_iconst (v := nI 0) hx hb dX0_fitsPattern_40 (by decide) ?_
      refine lv_goto (tgt := 59) hx hb dX0_fitsPattern_41 (by decide) ?_
      refine lv_istore (lv' := [(4, .int (nI 0)), (3, .int (nI 0)), (0, .ref (h 0)), (1, .int (nI K)), (2, .int (nI i))]) hx hb dX0_fitsPattern_59 hl (by decide) rfl (fun ls hl => ?_)
      refine lv_aload_n hx hb dX0_fitsPattern_61 rfl (lv_at hl 2 rfl) ?_
      refine lv_iload_n hx hb dX0_fitsPattern_62 rfl (lv_at hl 3 rfl) ?_
      refine lv_aload_n hx hb dX0_fitsPattern_63 rfl (lv_at hl 2 rfl) ?_
      refine xg_pt C w dX0_fitsPattern_64 ?_
      refine lv_iload_n hx hb dX0_fitsPattern_67 rfl (lv_at hl 4 rfl) ?_
      refine xl_pt C w (i := i) (by omega) dX0_fitsPattern_68 ?_
      refine lv_iload_n hx hb dX0_fitsPattern_69 rfl (lv_at hl 1 rfl) ?_
      refine lv_iload hx hb dX0_fitsPattern_70 (lv_at hl 0 rfl) ?_
      refine om_calli (Wr := []) (As := [.int (nI K), .int (pt i), .int (nI 0), .int (nI 0)]) (rest := []) C w (mX_compares l D d h tx mt pt bl ab fl len siz kn cd K (pt i) (nI 0) (nI 0) (by omega) (hbl.imp id (fun z => by obtain ⟨q, z1, z2⟩ := z; exact ⟨q, by omega, z2⟩))) [0, 1, 2, 3, 4, 5, 6] [] rfl rfl rfl rfl (by decide) rfl rfl (cwV 4 C.1.2.2.2.2 (lw_V q119 q121 qs5 q13 q122) rfl rfl rfl (by decide +kernel) ⟨Nat.le_of_ble_eq_true rfl, Nat.le_of_ble_eq_true rfl⟩) rfl hl.1 rfl (Nat.le_of_ble_eq_true rfl) dX0_fitsPattern_72 ⟨Nat.zero_le _, Nat.zero_le _⟩ (fun r_4 u_4 H locs hp_4 w => ?_)
      subst hp_4
      have w : om_H D A s (om_X h d tx mt pt bl ab fl len siz kn cd) H locs := w
      exact om_zret () C hr hlocks w (congrArg bI (by unfold om_fit; dsimp only; rw [show i - K + K = i by omega, if_pos c_7, if_pos c_37])) dX0_fitsPattern_75
set_option maxHeartbeats 4000000 in
set_option maxRecDepth 100000 in
/-- fitsText -/
theorem mX_fitsText (l : Launch) (D : va_G) (d : ClassId) (h : Nat → Nat) (tx mt pt bl ab fl : Nat → Int32) (len siz kn cd : Int32) (K x : Nat) (hK : K ≤ x) (hK2 : K < 10) (hi : x < 60) (hbl : bl K = -1 ∨ ∃ q, q < K ∧ bl K = nI q) (hab : ab K = -1 ∨ ∃ q, q < K ∧ ab K = nI q) : om_Mi l yX0_fitsText cX0_fitsText 5 (some .boolean) { frames := 1, cells := 0, slots := 0, locals := 30 } D d [.ref (h 0), .int (nI K), .int (nI x)] (om_X h d tx mt pt bl ab fl len siz kn cd) (fun (r : Int32) (_ : Unit) => r = bI (om_fit pt (fun j => tx (x - K + j)) K (bl K) (ab K))) (fun _ => om_X h d tx mt pt bl ab fl len siz kn cd) := by
  intro sz
  refine om_enter (by decide) (Nat.le_of_ble_eq_true rfl) ?_
  intro p e s m below meth c ls C hr hlocks w hl
  generalize va_A (om_X h d tx mt pt bl ab fl len siz kn cd) sz = A at C w ⊢
  have C : om_C p m c cX0_fitsText 5 s _ RX0 D d A := C
  have hx := C.1.1
  have hb := C.1.2.1
  have hl : lv_has ls 5 [(0, .ref (h 0)), (1, .int (nI K)), (2, .int (nI x))] := hl
  refine lv_aload_n hx hb dX0_fitsText_0 rfl (lv_at hl 0 rfl) ?_
  refine xg_bl C w dX0_fitsText_1 ?_
  refine lv_iload_n hx hb dX0_fitsText_4 rfl (lv_at hl 1 rfl) ?_
  refine xl_bl C w (i := K) (by omega) dX0_fitsText_5 ?_
  refine lv_iconst (v := (-1)) hx hb dX0_fitsText_6 (by decide) ?_
  refine lv_icmp_ne (tgt := 14) hx hb dX0_fitsText_7 (by decide) (fun c_7 => ?_) (fun c_7 => ?_)
  · obtain ⟨q, hq, eb⟩ := hbl.resolve_left c_7
    have eq : (bl K).toNatClampNeg = q := by rw [eb]; exact nI_clamp (by omega)
    refine lv_aload_n hx hb dX0_fitsText_14 rfl (lv_at hl 0 rfl) ?_
    refine xg_tx C w dX0_fitsText_15 ?_
    refine lv_iload_n hx hb dX0_fitsText_18 rfl (lv_at hl 2 rfl) ?_
    refine lv_iload_n hx hb dX0_fitsText_19 rfl (lv_at hl 1 rfl) ?_
    refine om_isub hx hb (by omega) dX0_fitsText_20 ?_
    refine lv_aload_n hx hb dX0_fitsText_21 rfl (lv_at hl 0 rfl) ?_
    refine xg_bl C w dX0_fitsText_22 ?_
    refine lv_iload_n hx hb dX0_fitsText_25 rfl (lv_at hl 1 rfl) ?_
    refine xl_bl C w (i := K) (by omega) dX0_fitsText_26 ?_
    refine lv_topi (fun y_ ey_ => ?_)
    have ey_ : y_ = nI q := ey_.trans (eb)
    subst ey_
    refine om_iadd hx hb dX0_fitsText_27 ?_
    refine xl_tx C w (i := x - K + q) (by omega) dX0_fitsText_28 ?_
    refine lv_istore_n (lv' := [(3, .int (tx (x - K + q))), (0, .ref (h 0)), (1, .int (nI K)), (2, .int (nI x))]) hx hb dX0_fitsText_29 rfl hl (by decide) rfl (fun ls hl => ?_)
    refine lv_aload_n hx hb dX0_fitsText_30 rfl (lv_at hl 1 rfl) ?_
    refine xg_ab C w dX0_fitsText_31 ?_
    refine lv_iload_n hx hb dX0_fitsText_34 rfl (lv_at hl 2 rfl) ?_
    refine xl_ab C w (i := K) (by omega) dX0_fitsText_35 ?_
    refine lv_iconst (v := (-1)) hx hb dX0_fitsText_36 (by decide) ?_
    refine lv_icmp_ne (tgt := 44) hx hb dX0_fitsText_37 (by decide) (fun c_37 => ?_) (fun c_37 => ?_)
    · obtain ⟨r, hr2, ea⟩ := hab.resolve_left c_37
      have er : (ab K).toNatClampNeg = r := by rw [ea]; exact nI_clamp (by omega)
      refine lv_aload_n hx hb dX0_fitsText_44 rfl (lv_at hl 1 rfl) ?_
      refine xg_tx C w dX0_fitsText_45 ?_
      refine lv_iload_n hx hb dX0_fitsText_48 rfl (lv_at hl 3 rfl) ?_
      refine lv_iload_n hx hb dX0_fitsText_49 rfl (lv_at hl 2 rfl) ?_
      refine om_isub hx hb (by omega) dX0_fitsText_50 ?_
      refine lv_aload_n hx hb dX0_fitsText_51 rfl (lv_at hl 1 rfl) ?_
      refine xg_ab C w dX0_fitsText_52 ?_
      refine lv_iload_n hx hb dX0_fitsText_55 rfl (lv_at hl 2 rfl) ?_
      refine xl_ab C w (i := K) (by omega) dX0_fitsText_56 ?_
      refine lv_topi (fun y_ ey_ => ?_)
      have ey_ : y_ = nI r := ey_.trans (ea)
      subst ey_
      refine om_iadd hx hb dX0_fitsText_57 ?_
      refine xl_tx C w (i := x - K + r) (by omega) dX0_fitsText_58 ?_
      refine lv_istore (lv' := [(4, .int (tx (x - K + r))), (3, .int (tx (x - K + q))), (0, .ref (h 0)), (1, .int (nI K)), (2, .int (nI x))]) hx hb dX0_fitsText_59 hl (by decide) rfl (fun ls hl => ?_)
      refine lv_aload_n hx hb dX0_fitsText_61 rfl (lv_at hl 2 rfl) ?_
      refine lv_iload_n hx hb dX0_fitsText_62 rfl (lv_at hl 3 rfl) ?_
      refine lv_aload_n hx hb dX0_fitsText_63 rfl (lv_at hl 2 rfl) ?_
      refine xg_tx C w dX0_fitsText_64 ?_
      refine lv_iload_n hx hb dX0_fitsText_67 rfl (lv_at hl 4 rfl) ?_
      refine xl_tx C w (i := x) (by omega) dX0_fitsText_68 ?_
      refine lv_iload_n hx hb dX0_fitsText_69 rfl (lv_at hl 1 rfl) ?_
      refine lv_iload hx hb dX0_fitsText_70 (lv_at hl 0 rfl) ?_
      refine om_calli (Wr := []) (As := [.int (nI K), .int (tx x), .int (tx (x - K + q)), .int (tx (x - K + r))]) (rest := []) C w (mX_compares l D d h tx mt pt bl ab fl len siz kn cd K (tx x) (tx (x - K + q)) (tx (x - K + r)) (by omega) (hbl.imp id (fun z => by obtain ⟨q, z1, z2⟩ := z; exact ⟨q, by omega, z2⟩))) [0, 1, 2, 3, 4, 5, 6] [] rfl rfl rfl rfl (by decide) rfl rfl (cwV 4 C.1.2.2.2.2 (lw_V q119 q121 qs5 q13 q122) rfl rfl rfl (by decide +kernel) ⟨Nat.le_of_ble_eq_true rfl, Nat.le_of_ble_eq_true rfl⟩) rfl hl.1 rfl (Nat.le_of_ble_eq_true rfl) dX0_fitsText_72 ⟨Nat.zero_le _, Nat.zero_le _⟩ (fun r_1 u_1 H locs hp_1 w => ?_)
      subst hp_1
      have w : om_H D A s (om_X h d tx mt pt bl ab fl len siz kn cd) H locs := w
      exact om_zret () C hr hlocks w (congrArg bI (by unfold om_fit; dsimp only; rw [show x - K + K = x by omega, if_neg c_7, eq, if_neg c_37, er])) dX0_fitsText_75
    · refine lv_iconst (v := nI 0) hx hb dX0_fitsText_40 (by decide) ?_
      refine lv_goto (tgt := 59) hx hb dX0_fitsText_41 (by decide) ?_
      refine lv_istore (lv' := [(4, .int (nI 0)), (3, .int (tx (x - K + q))), (0, .ref (h 0)), (1, .int (nI K)), (2, .int (nI x))]) hx hb dX0_fitsText_59 hl (by decide) rfl (fun ls hl => ?_)
      refine lv_aload_n hx hb dX0_fitsText_61 rfl (lv_at hl 2 rfl) ?_
      refine lv_iload_n hx hb dX0_fitsText_62 rfl (lv_at hl 3 rfl) ?_
      refine lv_aload_n hx hb dX0_fitsText_63 rfl (lv_at hl 2 rfl) ?_
      refine xg_tx C w dX0_fitsText_64 ?_
      refine lv_iload_n hx hb dX0_fitsText_67 rfl (lv_at hl 4 rfl) ?_
      refine xl_tx C w (i := x) (by omega) dX0_fitsText_68 ?_
      refine lv_iload_n hx hb dX0_fitsText_69 rfl (lv_at hl 1 rfl) ?_
      refine lv_iload hx hb dX0_fitsText_70 (lv_at hl 0 rfl) ?_
      refine om_calli (Wr := []) (As := [.int (nI K), .int (tx x), .int (tx (x - K + q)), .int (nI 0)]) (rest := []) C w (mX_compares l D d h tx mt pt bl ab fl len siz kn cd K (tx x) (tx (x - K + q)) (nI 0) (by omega) (hbl.imp id (fun z => by obtain ⟨q, z1, z2⟩ := z; exact ⟨q, by omega, z2⟩))) [0, 1, 2, 3, 4, 5, 6] [] rfl rfl rfl rfl (by decide) rfl rfl (cwV 4 C.1.2.2.2.2 (lw_V q119 q121 qs5 q13 q122) rfl rfl rfl (by decide +kernel) ⟨Nat.le_of_ble_eq_true rfl, Nat.le_of_ble_eq_true rfl⟩) rfl hl.1 rfl (Nat.le_of_ble_eq_true rfl) dX0_fitsText_72 ⟨Nat.zero_le _, Nat.zero_le _⟩ (fun r_2 u_2 H locs hp_2 w => ?_)
      subst hp_2
      have w : om_H D A s (om_X h d tx mt pt bl ab fl len siz kn cd) H locs := w
      exact om_zret () C hr hlocks w (congrArg bI (by unfold om_fit; dsimp only; rw [show x - K + K = x by omega, if_neg c_7, eq, if_pos c_37])) dX0_fitsText_75
  · refine lv_iconst (v := nI 0) hx hb dX0_fitsText_10 (by decide) ?_
    refine lv_goto (tgt := 29) hx hb dX0_fitsText_11 (by decide) ?_
    refine lv_istore_n (lv' := [(3, .int (nI 0)), (0, .ref (h 0)), (1, .int (nI K)), (2, .int (nI x))]) hx hb dX0_fitsText_29 rfl hl (by decide) rfl (fun ls hl => ?_)
    refine lv_aload_n hx hb dX0_fitsText_30 rfl (lv_at hl 1 rfl) ?_
    refine xg_ab C w dX0_fitsText_31 ?_
    refine lv_iload_n hx hb dX0_fitsText_34 rfl (lv_at hl 2 rfl) ?_
    refine xl_ab C w (i := K) (by omega) dX0_fitsText_35 ?_
    refine lv_iconst (v := (-1)) hx hb dX0_fitsText_36 (by decide) ?_
    refine lv_icmp_ne (tgt := 44) hx hb dX0_fitsText_37 (by decide) (fun c_37 => ?_) (fun c_37 => ?_)
    · obtain ⟨r, hr2, ea⟩ := hab.resolve_left c_37
      have er : (ab K).toNatClampNeg = r := by rw [ea]; exact nI_clamp (by omega)
      refine lv_aload_n hx hb dX0_fitsText_44 rfl (lv_at hl 1 rfl) ?_
      refine xg_tx C w dX0_fitsText_45 ?_
      refine lv_iload_n hx hb dX0_fitsText_48 rfl (lv_at hl 3 rfl) ?_
      refine lv_iload_n hx hb dX0_fitsText_49 rfl (lv_at hl 2 rfl) ?_
      refine om_isub hx hb (by omega) dX0_fitsText_50 ?_
      refine lv_aload_n hx hb dX0_fitsText_51 rfl (lv_at hl 1 rfl) ?_
      refine xg_ab C w dX0_fitsText_52 ?_
      refine lv_iload_n hx hb dX0_fitsText_55 rfl (lv_at hl 2 rfl) ?_
      refine xl_ab C w (i := K) (by omega) dX0_fitsText_56 ?_
      refine lv_topi (fun y_ ey_ => ?_)
      have ey_ : y_ = nI r := ey_.trans (ea)
      subst ey_
      refine om_iadd hx hb dX0_fitsText_57 ?_
      refine xl_tx C w (i := x - K + r) (by omega) dX0_fitsText_58 ?_
      refine lv_istore (lv' := [(4, .int (tx (x - K + r))), (3, .int (nI 0)), (0, .ref (h 0)), (1, .int (nI K)), (2, .int (nI x))]) hx hb dX0_fitsText_59 hl (by decide) rfl (fun ls hl => ?_)
      refine lv_aload_n hx hb dX0_fitsText_61 rfl (lv_at hl 2 rfl) ?_
      refine lv_iload_n hx hb dX0_fitsText_62 rfl (lv_at hl 3 rfl) ?_
      refine lv_aload_n hx hb dX0_fitsText_63 rfl (lv_at hl 2 rfl) ?_
      refine xg_tx C w dX0_fitsText_64 ?_
      refine lv_iload_n hx hb dX0_fitsText_67 rfl (lv_at hl 4 rfl) ?_
      refine xl_tx C w (i := x) (by omega) dX0_fitsText_68 ?_
      refine lv_iload_n hx hb dX0_fitsText_69 rfl (lv_at hl 1 rfl) ?_
      refine lv_iload hx hb dX0_fitsText_70 (lv_at hl 0 rfl) ?_
      refine om_calli (Wr := []) (As := [.int (nI K), .int (tx x), .int (nI 0), .int (tx (x - K + r))]) (rest := []) C w (mX_compares l D d h tx mt pt bl ab fl len siz kn cd K (tx x) (nI 0) (tx (x - K + r)) (by omega) (hbl.imp id (fun z => by obtain ⟨q, z1, z2⟩ := z; exact ⟨q, by omega, z2⟩))) [0, 1, 2, 3, 4, 5, 6] [] rfl rfl rfl rfl (by decide) rfl rfl (cwV 4 C.1.2.2.2.2 (lw_V q119 q121 qs5 q13 q122) rfl rfl rfl (by decide +kernel) ⟨Nat.le_of_ble_eq_true rfl, Nat.le_of_ble_eq_true rfl⟩) rfl hl.1 rfl (Nat.le_of_ble_eq_true rfl) dX0_fitsText_72 ⟨Nat.zero_le _, Nat.zero_le _⟩ (fun r_3 u_3 H locs hp_3 w => ?_)
      subst hp_3
      have w : om_H D A s (om_X h d tx mt pt bl ab fl len siz kn cd) H locs := w
      exact om_zret () C hr hlocks w (congrArg bI (by unfold om_fit; dsimp only; rw [show x - K + K = x by omega, if_pos c_7, if_neg c_37, er])) dX0_fitsText_75
    · refine lv_iconst (v := nI 0) hx hb dX0_fitsText_40 (by decide) ?_
      refine lv_goto (tgt := 59) hx hb dX0_fitsText_41 (by decide) ?_
      refine lv_istore (lv' := [(4, .int (nI 0)), (3, .int (nI 0)), (0, .ref (h 0)), (1, .int (nI K)), (2, .int (nI x))]) hx hb dX0_fitsText_59 hl (by decide) rfl (fun ls hl => ?_)
      refine lv_aload_n hx hb dX0_fitsText_61 rfl (lv_at hl 2 rfl) ?_
      refine lv_iload_n hx hb dX0_fitsText_62 rfl (lv_at hl 3 rfl) ?_
      refine lv_aload_n hx hb dX0_fitsText_63 rfl (lv_at hl 2 rfl) ?_
      refine xg_tx C w dX0_fitsText_64 ?_
      refine lv_iload_n hx hb dX0_fitsText_67 rfl (lv_at hl 4 rfl) ?_
      refine xl_tx C w (i := x) (by omega) dX0_fitsText_68 ?_
      refine lv_iload_n hx hb dX0_fitsText_69 rfl (lv_at hl 1 rfl) ?_
      refine lv_iload hx hb dX0_fitsText_70 (lv_at hl 0 rfl) ?_
      refine om_calli (Wr := []) (As := [.int (nI K), .int (tx x), .int (nI 0), .int (nI 0)]) (rest := []) C w (mX_compares l D d h tx mt pt bl ab fl len siz kn cd K (tx x) (nI 0) (nI 0) (by omega) (hbl.imp id (fun z => by obtain ⟨q, z1, z2⟩ := z; exact ⟨q, by omega, z2⟩))) [0, 1, 2, 3, 4, 5, 6] [] rfl rfl rfl rfl (by decide) rfl rfl (cwV 4 C.1.2.2.2.2 (lw_V q119 q121 qs5 q13 q122) rfl rfl rfl (by decide +kernel) ⟨Nat.le_of_ble_eq_true rfl, Nat.le_of_ble_eq_true rfl⟩) rfl hl.1 rfl (Nat.le_of_ble_eq_true rfl) dX0_fitsText_72 ⟨Nat.zero_le _, Nat.zero_le _⟩ (fun r_4 u_4 H locs hp_4 w => ?_)
      subst hp_4
      have w : om_H D A s (om_X h d tx mt pt bl ab fl len siz kn cd) H locs := w
      exact om_zret () C hr hlocks w (congrArg bI (by unfold om_fit; dsimp only; rw [show x - K + K = x by omega, if_pos c_7, if_pos c_37])) dX0_fitsText_75
end
section
set_option maxHeartbeats 4000000 in
set_option maxRecDepth 100000 in
/-- findNeighbours(i) -/
theorem mX_findNb (l : Launch) (D : va_G) (d : ClassId) (h : Nat → Nat) (tx mt pt bl ab fl : Nat → Int32) (len siz kn cd : Int32) (i : Nat) (hi : i < 10) : om_Mv l yX0_findNeighbours cX0_findNeighbours 3 none { frames := 0, cells := 0, slots := 0, locals := 0 } D d [.ref (h 0), .int (nI i)] (om_X h d tx mt pt bl ab fl len siz kn cd) (fun (u : (Nat → Int32) × (Nat → Int32)) => (∀ t, t ≠ i → u.1 t = bl t) ∧ (∀ t, t ≠ i → u.2 t = ab t) ∧ om_bel pt i (u.1 i) ∧ om_abo pt i (u.2 i)) (fun u => om_X h d tx mt pt u.1 u.2 fl len siz kn cd) := by
  intro sz
  refine om_enter (by decide) (Nat.le_of_ble_eq_true rfl) ?_
  intro p e s m below meth c ls C hr hlocks w hl
  generalize va_A (om_X h d tx mt pt bl ab fl len siz kn cd) sz = A at C w ⊢
  have C : om_C p m c cX0_findNeighbours 3 s _ RX0 D d A := C
  have hx := C.1.1
  have hb := C.1.2.1
  have hl : lv_has ls 3 [(0, .ref (h 0)), (1, .int (nI i))] := hl
  refine lv_aload_n hx hb dX0_findNeighbours_0 rfl (lv_at hl 0 rfl) ?_
  refine xg_bl C w dX0_findNeighbours_1 ?_
  refine lv_iload_n hx hb dX0_findNeighbours_4 rfl (lv_at hl 1 rfl) ?_
  refine lv_iconst (v := (-1)) hx hb dX0_findNeighbours_5 (by decide) ?_
  refine xs_bl C w (i := i) (by omega) dX0_findNeighbours_6 (fun H locs w => ?_)
  refine lv_aload_n hx hb dX0_findNeighbours_7 rfl (lv_at hl 0 rfl) ?_
  refine xg_ab C w dX0_findNeighbours_8 ?_
  refine lv_iload_n hx hb dX0_findNeighbours_11 rfl (lv_at hl 1 rfl) ?_
  refine lv_iconst (v := (-1)) hx hb dX0_findNeighbours_12 (by decide) ?_
  refine xs_ab C w (i := i) (by omega) dX0_findNeighbours_13 (fun H locs w => ?_)
  refine lv_iconst (v := nI 0) hx hb dX0_findNeighbours_14 (by decide) ?_
  refine lv_istore_n (lv' := [(2, .int (nI 0)), (0, .ref (h 0)), (1, .int (nI i))]) hx hb dX0_findNeighbours_15 rfl hl (by decide) rfl (fun ls hl => ?_)
  refine om_loop3 (α := Nat) (β := (Nat → Int32)) (γ := (Nat → Int32)) (I := fun j bl2 ab2 H locs ls => (j ≤ i) ∧ (∀ t, t ≠ i → bl2 t = bl t) ∧ (∀ t, t ≠ i → ab2 t = ab t) ∧ (om_bej pt i j (bl2 i)) ∧ (om_abj pt i j (ab2 i)) ∧ om_H D A s (om_X h d tx mt pt bl2 ab2 fl len siz kn cd) H locs ∧ lv_has ls 3 [(0, .ref (h 0)), (1, .int (nI i)), (2, .int (nI j))]) (μ := fun j bl2 ab2 => i - j) ?_ 0 (upd bl i (-1)) (upd ab i (-1)) _ _ _ ⟨Nat.zero_le _, (fun t ht => pk_un ht), (fun t ht => pk_un ht), Or.inl ⟨pk_us, lt_0⟩, Or.inl ⟨pk_us, lt_0⟩, w, lv_sub hl [1, 2, 0] rfl⟩
  intro j bl2 ab2 H locs ls hI ih_16
  obtain ⟨hj, hbr, har, hbl, hab, w, hl⟩ := hI
  refine lv_iload_n hx hb dX0_findNeighbours_16 rfl (lv_at hl 2 rfl) ?_
  refine lv_iload_n hx hb dX0_findNeighbours_17 rfl (lv_at hl 1 rfl) ?_
  refine om_icmp_ge (tgt := 131) hx hb dX0_findNeighbours_18 (by decide) (by omega) (by omega) (fun c_18 => ?_) (fun c_18 => ?_)
  · exact om_vret (bl2, ab2) C hr hlocks w (by
                                            have e : j = i := by omega
                                            subst e
                                            exact ⟨hbr, har, hbl, hab⟩) dX0_findNeighbours_131
  · refine om_join1 (α := (Nat → Int32)) (pc2 := 73) (I := fun bl3 H locs ls => (∀ t, t ≠ i → bl3 t = bl t) ∧ (om_bej pt i (j + 1) (bl3 i)) ∧ om_H D A s (om_X h d tx mt pt bl3 ab2 fl len siz kn cd) H locs ∧ lv_has ls 3 [(0, .ref (h 0)), (1, .int (nI i)), (2, .int (nI j))]) ?_ ?_
    · intro bl3 H locs ls hI
      obtain ⟨hb1, hbx, w, hl⟩ := hI
      refine lv_aload_n hx hb dX0_findNeighbours_73 rfl (lv_at hl 0 rfl) ?_
      refine xg_pt C w dX0_findNeighbours_74 ?_
      refine lv_iload_n hx hb dX0_findNeighbours_77 rfl (lv_at hl 2 rfl) ?_
      refine xl_pt C w (i := j) (by omega) dX0_findNeighbours_78 ?_
      refine lv_aload_n hx hb dX0_findNeighbours_79 rfl (lv_at hl 0 rfl) ?_
      refine xg_pt C w dX0_findNeighbours_80 ?_
      refine lv_iload_n hx hb dX0_findNeighbours_83 rfl (lv_at hl 1 rfl) ?_
      refine xl_pt C w (i := i) (by omega) dX0_findNeighbours_84 ?_
      refine lv_icmp_lt (tgt := 125) hx hb dX0_findNeighbours_85 (by decide) (fun c_85 => ?_) (fun c_85 => ?_)
      · have hax := om_abj_skip hab (om_ltn c_85)
        have ha1 := har
        refine lv_iinc (v := nI (j + 1)) (lv' := [(2, .int (nI (j + 1))), (0, .ref (h 0)), (1, .int (nI i))]) hx hb dX0_findNeighbours_125 hl (k := 2) rfl (nI_add _ 1) (by decide) rfl (fun ls hl => ?_)
        refine lv_goto (tgt := 16) hx hb dX0_findNeighbours_128 (by decide) ?_
        exact ih_16 (j + 1) bl3 ab2 _ _ _ (by first | omega | (dsimp only; omega)) ⟨by omega, hb1, ha1, hbx, hax, w, lv_sub hl [1, 2, 0] rfl⟩
      · have c_85 := om_lne c_85
        refine lv_aload_n hx hb dX0_findNeighbours_88 rfl (lv_at hl 0 rfl) ?_
        refine xg_ab C w dX0_findNeighbours_89 ?_
        refine lv_iload_n hx hb dX0_findNeighbours_92 rfl (lv_at hl 1 rfl) ?_
        refine xl_ab C w (i := i) (by omega) dX0_findNeighbours_93 ?_
        refine lv_iconst (v := (-1)) hx hb dX0_findNeighbours_94 (by decide) ?_
        refine lv_icmp_eq (tgt := 118) hx hb dX0_findNeighbours_95 (by decide) (fun c_95 => ?_) (fun c_95 => ?_)
        · have hax := om_abj_new (j := j) hab c_85 (fun q hq e => absurd (c_95.symm.trans e).symm (om_m1 (by omega)))
          refine lv_aload_n hx hb dX0_findNeighbours_118 rfl (lv_at hl 0 rfl) ?_
          refine xg_ab C w dX0_findNeighbours_119 ?_
          refine lv_iload_n hx hb dX0_findNeighbours_122 rfl (lv_at hl 1 rfl) ?_
          refine lv_iload_n hx hb dX0_findNeighbours_123 rfl (lv_at hl 2 rfl) ?_
          refine xs_ab C w (i := i) (by omega) dX0_findNeighbours_124 (fun H locs w => ?_)
          have ha1 : ∀ t, t ≠ i → upd ab2 i (nI j) t = ab t := fun t ht => by rw [pk_un ht]; exact har t ht
          have hax : om_abj pt i (j + 1) (upd ab2 i (nI j) i) := by rw [pk_us]; exact hax
          refine lv_iinc (v := nI (j + 1)) (lv' := [(2, .int (nI (j + 1))), (0, .ref (h 0)), (1, .int (nI i))]) hx hb dX0_findNeighbours_125 hl (k := 2) rfl (nI_add _ 1) (by decide) rfl (fun ls hl => ?_)
          refine lv_goto (tgt := 16) hx hb dX0_findNeighbours_128 (by decide) ?_
          exact ih_16 (j + 1) bl3 (upd ab2 i (nI j)) _ _ _ (by first | omega | (dsimp only; omega)) ⟨by omega, hb1, ha1, hbx, hax, w, lv_sub hl [1, 2, 0] rfl⟩
        · obtain ⟨q, hq, eq⟩ := (om_abj_ix hab).resolve_left c_95
          refine lv_aload_n hx hb dX0_findNeighbours_98 rfl (lv_at hl 0 rfl) ?_
          refine xg_pt C w dX0_findNeighbours_99 ?_
          refine lv_iload_n hx hb dX0_findNeighbours_102 rfl (lv_at hl 2 rfl) ?_
          refine xl_pt C w (i := j) (by omega) dX0_findNeighbours_103 ?_
          refine lv_aload_n hx hb dX0_findNeighbours_104 rfl (lv_at hl 0 rfl) ?_
          refine xg_pt C w dX0_findNeighbours_105 ?_
          refine lv_aload_n hx hb dX0_findNeighbours_108 rfl (lv_at hl 0 rfl) ?_
          refine xg_ab C w dX0_findNeighbours_109 ?_
          refine lv_iload_n hx hb dX0_findNeighbours_112 rfl (lv_at hl 1 rfl) ?_
          refine xl_ab C w (i := i) (by omega) dX0_findNeighbours_113 ?_
          refine lv_topi (fun y_ ey_ => ?_)
          have ey_ : y_ = nI q := ey_.trans (eq)
          subst ey_
          refine xl_pt C w (i := q) (by omega) dX0_findNeighbours_114 ?_
          refine lv_icmp_ge (tgt := 125) hx hb dX0_findNeighbours_115 (by decide) (fun c_115 => ?_) (fun c_115 => ?_)
          · have hax := om_abj_keep hab hq (by omega) eq c_115
            have ha1 := har
            refine lv_iinc (v := nI (j + 1)) (lv' := [(2, .int (nI (j + 1))), (0, .ref (h 0)), (1, .int (nI i))]) hx hb dX0_findNeighbours_125 hl (k := 2) rfl (nI_add _ 1) (by decide) rfl (fun ls hl => ?_)
            refine lv_goto (tgt := 16) hx hb dX0_findNeighbours_128 (by decide) ?_
            exact ih_16 (j + 1) bl3 ab2 _ _ _ (by first | omega | (dsimp only; omega)) ⟨by omega, hb1, ha1, hbx, hax, w, lv_sub hl [1, 2, 0] rfl⟩
          · have hax := om_abj_new (j := j) hab c_85 (fun u hu e => by rw [(nI_eq (by omega) (by omega)).mp (e.symm.trans eq)]; exact c_115)
            refine lv_aload_n hx hb dX0_findNeighbours_118 rfl (lv_at hl 0 rfl) ?_
            refine xg_ab C w dX0_findNeighbours_119 ?_
            refine lv_iload_n hx hb dX0_findNeighbours_122 rfl (lv_at hl 1 rfl) ?_
            refine lv_iload_n hx hb dX0_findNeighbours_123 rfl (lv_at hl 2 rfl) ?_
            refine xs_ab C w (i := i) (by omega) dX0_findNeighbours_124 (fun H locs w => ?_)
            have ha1 : ∀ t, t ≠ i → upd ab2 i (nI j) t = ab t := fun t ht => by rw [pk_un ht]; exact har t ht
            have hax : om_abj pt i (j + 1) (upd ab2 i (nI j) i) := by rw [pk_us]; exact hax
            refine lv_iinc (v := nI (j + 1)) (lv' := [(2, .int (nI (j + 1))), (0, .ref (h 0)), (1, .int (nI i))]) hx hb dX0_findNeighbours_125 hl (k := 2) rfl (nI_add _ 1) (by decide) rfl (fun ls hl => ?_)
            refine lv_goto (tgt := 16) hx hb dX0_findNeighbours_128 (by decide) ?_
            exact ih_16 (j + 1) bl3 (upd ab2 i (nI j)) _ _ _ (by first | omega | (dsimp only; omega)) ⟨by omega, hb1, ha1, hbx, hax, w, lv_sub hl [1, 2, 0] rfl⟩
    · intro j_73
      refine lv_aload_n hx hb dX0_findNeighbours_21 rfl (lv_at hl 0 rfl) ?_
      refine xg_pt C w dX0_findNeighbours_22 ?_
      refine lv_iload_n hx hb dX0_findNeighbours_25 rfl (lv_at hl 2 rfl) ?_
      refine xl_pt C w (i := j) (by omega) dX0_findNeighbours_26 ?_
      refine lv_aload_n hx hb dX0_findNeighbours_27 rfl (lv_at hl 0 rfl) ?_
      refine xg_pt C w dX0_findNeighbours_28 ?_
      refine lv_iload_n hx hb dX0_findNeighbours_31 rfl (lv_at hl 1 rfl) ?_
      refine xl_pt C w (i := i) (by omega) dX0_findNeighbours_32 ?_
      refine lv_icmp_gt (tgt := 73) hx hb dX0_findNeighbours_33 (by decide) (fun c_33 => ?_) (fun c_33 => ?_)
      · have hbx := om_bej_skip hbl (om_ltn c_33)
        have hb1 := hbr
        exact j_73 bl2 _ _ _ ⟨hb1, hbx, w, lv_sub hl [0, 1, 2] rfl⟩
      · have c_33 := om_lne c_33
        refine lv_aload_n hx hb dX0_findNeighbours_36 rfl (lv_at hl 0 rfl) ?_
        refine xg_bl C w dX0_findNeighbours_37 ?_
        refine lv_iload_n hx hb dX0_findNeighbours_40 rfl (lv_at hl 1 rfl) ?_
        refine xl_bl C w (i := i) (by omega) dX0_findNeighbours_41 ?_
        refine lv_iconst (v := (-1)) hx hb dX0_findNeighbours_42 (by decide) ?_
        refine lv_icmp_eq (tgt := 66) hx hb dX0_findNeighbours_43 (by decide) (fun c_43 => ?_) (fun c_43 => ?_)
        · have hbx := om_bej_new (j := j) hbl c_33 (fun q hq e => absurd (c_43.symm.trans e).symm (om_m1 (by omega)))
          refine lv_aload_n hx hb dX0_findNeighbours_66 rfl (lv_at hl 0 rfl) ?_
          refine xg_bl C w dX0_findNeighbours_67 ?_
          refine lv_iload_n hx hb dX0_findNeighbours_70 rfl (lv_at hl 1 rfl) ?_
          refine lv_iload_n hx hb dX0_findNeighbours_71 rfl (lv_at hl 2 rfl) ?_
          refine xs_bl C w (i := i) (by omega) dX0_findNeighbours_72 (fun H locs w => ?_)
          have hb1 : ∀ t, t ≠ i → upd bl2 i (nI j) t = bl t := fun t ht => by rw [pk_un ht]; exact hbr t ht
          have hbx : om_bej pt i (j + 1) (upd bl2 i (nI j) i) := by rw [pk_us]; exact hbx
          exact j_73 (upd bl2 i (nI j)) _ _ _ ⟨hb1, hbx, w, lv_sub hl [0, 1, 2] rfl⟩
        · obtain ⟨q, hq, eq⟩ := (om_bej_ix hbl).resolve_left c_43
          refine lv_aload_n hx hb dX0_findNeighbours_46 rfl (lv_at hl 0 rfl) ?_
          refine xg_pt C w dX0_findNeighbours_47 ?_
          refine lv_iload_n hx hb dX0_findNeighbours_50 rfl (lv_at hl 2 rfl) ?_
          refine xl_pt C w (i := j) (by omega) dX0_findNeighbours_51 ?_
          refine lv_aload_n hx hb dX0_findNeighbours_52 rfl (lv_at hl 0 rfl) ?_
          refine xg_pt C w dX0_findNeighbours_53 ?_
          refine lv_aload_n hx hb dX0_findNeighbours_56 rfl (lv_at hl 0 rfl) ?_
          refine xg_bl C w dX0_findNeighbours_57 ?_
          refine lv_iload_n hx hb dX0_findNeighbours_60 rfl (lv_at hl 1 rfl) ?_
          refine xl_bl C w (i := i) (by omega) dX0_findNeighbours_61 ?_
          refine lv_topi (fun y_ ey_ => ?_)
          have ey_ : y_ = nI q := ey_.trans (eq)
          subst ey_
          refine xl_pt C w (i := q) (by omega) dX0_findNeighbours_62 ?_
          refine lv_icmp_le (tgt := 73) hx hb dX0_findNeighbours_63 (by decide) (fun c_63 => ?_) (fun c_63 => ?_)
          · have hbx := om_bej_keep hbl hq (by omega) eq c_63
            have hb1 := hbr
            exact j_73 bl2 _ _ _ ⟨hb1, hbx, w, lv_sub hl [0, 1, 2] rfl⟩
          · have hbx := om_bej_new (j := j) hbl c_33 (fun u hu e => by rw [(nI_eq (by omega) (by omega)).mp (e.symm.trans eq)]; exact c_63)
            refine lv_aload_n hx hb dX0_findNeighbours_66 rfl (lv_at hl 0 rfl) ?_
            refine xg_bl C w dX0_findNeighbours_67 ?_
            refine lv_iload_n hx hb dX0_findNeighbours_70 rfl (lv_at hl 1 rfl) ?_
            refine lv_iload_n hx hb dX0_findNeighbours_71 rfl (lv_at hl 2 rfl) ?_
            refine xs_bl C w (i := i) (by omega) dX0_findNeighbours_72 (fun H locs w => ?_)
            have hb1 : ∀ t, t ≠ i → upd bl2 i (nI j) t = bl t := fun t ht => by rw [pk_un ht]; exact hbr t ht
            have hbx : om_bej pt i (j + 1) (upd bl2 i (nI j) i) := by rw [pk_us]; exact hbx
            exact j_73 (upd bl2 i (nI j)) _ _ _ ⟨hb1, hbx, w, lv_sub hl [0, 1, 2] rfl⟩
set_option maxHeartbeats 4000000 in
set_option maxRecDepth 100000 in
/-- code() -/
theorem mX_code (l : Launch) (D : va_G) (d : ClassId) (h : Nat → Nat) (tx mt pt bl ab fl : Nat → Int32) (len kn cd : Int32) (k : Nat) (hk : k ≤ 10) (hc : cd = nI 0 ∨ (cd = nI 1 ∧ om_cod pt k bl ab fl)) : om_Mv l yX0_code cX0_code 4 none { frames := 2, cells := 0, slots := 0, locals := 60 } D d [.ref (h 0)] (om_X h d tx mt pt bl ab fl len (nI k) kn cd) (fun (u : (Nat → Int32) × (Nat → Int32) × (Nat → Int32)) => om_cod pt k u.1 u.2.1 u.2.2) (fun u => om_X h d tx mt pt u.1 u.2.1 u.2.2 len (nI k) kn (nI 1)) := by
  intro sz
  refine om_enter (by decide) (Nat.le_of_ble_eq_true rfl) ?_
  intro p e s m below meth c ls C hr hlocks w hl
  generalize va_A (om_X h d tx mt pt bl ab fl len (nI k) kn cd) sz = A at C w ⊢
  have C : om_C p m c cX0_code 4 s _ RX0 D d A := C
  have hx := C.1.1
  have hb := C.1.2.1
  have hl : lv_has ls 4 [(0, .ref (h 0))] := hl
  refine lv_aload_n hx hb dX0_code_0 rfl (lv_at hl 0 rfl) ?_
  refine xg_cd C w dX0_code_1 ?_
  refine lv_if_eq (tgt := 8) hx hb dX0_code_4 (by decide) (fun c_4 => ?_) (fun c_4 => ?_)
  · refine lv_aload_n hx hb dX0_code_8 rfl (lv_at hl 0 rfl) ?_
    refine lv_iconst (v := nI 1) hx hb dX0_code_9 (by decide) ?_
    refine xp_cd C w rfl rfl dX0_code_10 (fun H locs w => ?_)
    refine lv_iconst (v := nI 0) hx hb dX0_code_13 (by decide) ?_
    refine lv_istore_n (lv' := [(1, .int (nI 0)), (0, .ref (h 0))]) hx hb dX0_code_14 rfl hl (by decide) rfl (fun ls hl => ?_)
    refine om_loop3 (α := Nat) (β := (Nat → Int32)) (γ := (Nat → Int32)) (I := fun i bl2 ab2 H locs ls => (i ≤ k) ∧ (∀ t, t < i → om_bel pt t (bl2 t) ∧ om_abo pt t (ab2 t)) ∧ om_H D A s (om_X h d tx mt pt bl2 ab2 fl len (nI k) kn (nI 1)) H locs ∧ lv_has ls 4 [(0, .ref (h 0)), (1, .int (nI i))]) (μ := fun i bl2 ab2 => k - i) ?_ 0 bl ab _ _ _ ⟨Nat.zero_le _, lt_0, w, lv_sub hl [1, 0] rfl⟩
    intro i bl2 ab2 H locs ls hI ih_15
    obtain ⟨hi, hnb, w, hl⟩ := hI
    refine lv_iload_n hx hb dX0_code_15 rfl (lv_at hl 1 rfl) ?_
    refine lv_aload_n hx hb dX0_code_16 rfl (lv_at hl 0 rfl) ?_
    refine xg_siz C w dX0_code_17 ?_
    refine om_icmp_ge (tgt := 34) hx hb dX0_code_20 (by decide) (by omega) (by omega) (fun c_20 => ?_) (fun c_20 => ?_)
    · have hnb : ∀ t, t < k → om_bel pt t (bl2 t) ∧ om_abo pt t (ab2 t) := fun t ht => hnb t (by omega)
      refine lv_aload_n hx hb dX0_code_34 rfl (lv_at hl 0 rfl) ?_
      refine xg_fl C w dX0_code_35 ?_
      refine lv_iconst (v := nI 0) hx hb dX0_code_38 (by decide) ?_
      refine lv_iconst (v := (-1)) hx hb dX0_code_39 (by decide) ?_
      refine xs_fl C w (i := 0) (by omega) dX0_code_40 (fun H locs w => ?_)
      refine lv_iconst (v := nI 0) hx hb dX0_code_41 (by decide) ?_
      refine lv_istore_n (lv' := [(1, .int (nI 0)), (0, .ref (h 0))]) hx hb dX0_code_42 rfl hl (by decide) rfl (fun ls hl => ?_)
      refine om_loop2 (α := Nat) (β := (Nat → Int32)) (I := fun i fl2 H locs ls => (i ≤ k) ∧ (fl2 0 = -1) ∧ (∀ t, 0 < t → t ≤ i → fl2 t = nI (om_wd pt t)) ∧ om_H D A s (om_X h d tx mt pt bl2 ab2 fl2 len (nI k) kn (nI 1)) H locs ∧ lv_has ls 4 [(0, .ref (h 0)), (1, .int (nI i))]) (μ := fun i fl2 => k - i) ?_ 0 (upd fl 0 (-1)) _ _ _ ⟨Nat.zero_le _, pk_us, (fun t t1 t2 => absurd t1 (by omega)), w, lv_sub hl [1, 0] rfl⟩
      intro i fl2 H locs ls hI ih_43
      obtain ⟨hi, hf0, hfl, w, hl⟩ := hI
      refine lv_iload_n hx hb dX0_code_43 rfl (lv_at hl 1 rfl) ?_
      refine lv_aload_n hx hb dX0_code_44 rfl (lv_at hl 0 rfl) ?_
      refine xg_siz C w dX0_code_45 ?_
      refine om_icmp_ge (tgt := 112) hx hb dX0_code_48 (by decide) (by omega) (by omega) (fun c_48 => ?_) (fun c_48 => ?_)
      · exact om_vret (bl2, ab2, fl2) C hr hlocks w ⟨fun t ht => hnb t (by omega), hf0, fun t t1 t2 => hfl t t1 (by omega)⟩ dX0_code_112
      · rcases Nat.eq_zero_or_pos i with hi0 | hi0
        · have hval : nI (om_wd pt (i + 1)) = (-1) + nI 1 := by rw [hi0]; show nI (om_wd pt 1) = _; rw [om_wd_1]; decide
          have hval := hval.symm
          refine lv_aload_n hx hb dX0_code_51 rfl (lv_at hl 0 rfl) ?_
          refine xg_fl C w dX0_code_52 ?_
          refine lv_iload_n hx hb dX0_code_55 rfl (lv_at hl 1 rfl) ?_
          refine xl_fl C w (i := i) (by omega) dX0_code_56 ?_
          refine lv_topi (fun y_ ey_ => ?_)
          have ey_ : y_ = (-1) := ey_.trans (by rw [hi0]; exact hf0)
          subst ey_
          refine lv_istore_n (lv' := [(2, .int (-1)), (0, .ref (h 0)), (1, .int (nI i))]) hx hb dX0_code_57 rfl hl (by decide) rfl (fun ls hl => ?_)
          refine lv_iconst (v := nI 0) hx hb dX0_code_58 (by decide) ?_
          refine lv_istore_n (lv' := [(3, .int (nI 0)), (2, .int (-1)), (0, .ref (h 0)), (1, .int (nI i))]) hx hb dX0_code_59 rfl hl (by decide) rfl (fun ls hl => ?_)
          refine lv_iload_n hx hb dX0_code_60 rfl (lv_at hl 0 rfl) ?_
          refine lv_bipush (v := nI 10) hx hb dX0_code_61 (by decide) ?_
          refine om_icmp_gt (tgt := 95) hx hb dX0_code_63 (by decide) (by omega) (by omega) (fun c_63 => ?_) (fun c_63 => ?_)
          · exfalso; omega
          · refine lv_iload_n hx hb dX0_code_66 rfl (lv_at hl 1 rfl) ?_
            refine lv_if_lt (tgt := 95) hx hb dX0_code_67 (by decide) (fun c_67 => ?_) (fun c_67 => ?_)
            · refine lv_aload_n hx hb dX0_code_95 rfl (lv_at hl 2 rfl) ?_
              refine xg_fl C w dX0_code_96 ?_
              refine lv_iload_n hx hb dX0_code_99 rfl (lv_at hl 3 rfl) ?_
              refine lv_iconst (v := nI 1) hx hb dX0_code_100 (by decide) ?_
              refine om_iadd hx hb dX0_code_101 ?_
              refine lv_iload_n hx hb dX0_code_102 rfl (lv_at hl 1 rfl) ?_
              refine lv_iconst (v := nI 1) hx hb dX0_code_103 (by decide) ?_
              refine lv_iadd hx hb dX0_code_104 ?_
              refine xs_fl C w (i := i + 1) (by omega) dX0_code_105 (fun H locs w => ?_)
              refine lv_iinc (v := nI (i + 1)) (lv' := [(1, .int (nI (i + 1))), (3, .int (nI 0)), (2, .int (-1)), (0, .ref (h 0))]) hx hb dX0_code_106 hl (k := 3) rfl (nI_add _ 1) (by decide) rfl (fun ls hl => ?_)
              refine lv_goto (tgt := 43) hx hb dX0_code_109 (by decide) ?_
              exact ih_43 (i + 1) (upd fl2 (i + 1) ((-1) + (nI 1))) _ _ _ (by first | omega | (dsimp only; omega)) ⟨by omega, (by rw [pk_un (by omega)]; exact hf0), (fun t t1 t2 => by
                                                      rcases Nat.lt_or_ge t (i + 1) with z | z
                                                      · rw [pk_un (by omega)]; exact hfl t t1 (by omega)
                                                      · have e : t = i + 1 := by omega
                                                        rw [e, pk_us, hval]), w, lv_sub hl [3, 0] rfl⟩
            · exact absurd (by decide) c_67
        · refine lv_aload_n hx hb dX0_code_51 rfl (lv_at hl 0 rfl) ?_
          refine xg_fl C w dX0_code_52 ?_
          refine lv_iload_n hx hb dX0_code_55 rfl (lv_at hl 1 rfl) ?_
          refine xl_fl C w (i := i) (by omega) dX0_code_56 ?_
          refine lv_topi (fun y_ ey_ => ?_)
          have ey_ : y_ = nI (om_wd pt i) := ey_.trans (hfl i hi0 (Nat.le_refl i))
          subst ey_
          refine lv_istore_n (lv' := [(2, .int (nI (om_wd pt i))), (0, .ref (h 0)), (1, .int (nI i))]) hx hb dX0_code_57 rfl hl (by decide) rfl (fun ls hl => ?_)
          refine lv_iconst (v := nI 0) hx hb dX0_code_58 (by decide) ?_
          refine lv_istore_n (lv' := [(3, .int (nI 0)), (2, .int (nI (om_wd pt i))), (0, .ref (h 0)), (1, .int (nI i))]) hx hb dX0_code_59 rfl hl (by decide) rfl (fun ls hl => ?_)
          refine om_loop2 (α := Nat) (β := Nat) (I := fun K tn H locs ls => (om_inv pt pt i i K) ∧ (K + tn ≤ 9) ∧ om_H D A s (om_X h d tx mt pt bl2 ab2 fl2 len (nI k) kn (nI 1)) H locs ∧ lv_has ls 4 [(0, .ref (h 0)), (1, .int (nI i)), (2, .int (nI K)), (3, .int (nI tn))]) (μ := fun K tn => K) ?_ (om_wd pt i) 0 _ _ _ ⟨om_inv_wd0 hi0, (by have := om_wd_le pt i; omega), w, lv_sub hl [2, 3, 1, 0] rfl⟩
          intro K tn H locs ls hI ih_60
          obtain ⟨hinv, htn, w, hl⟩ := hI
          refine lv_iload_n hx hb dX0_code_60 rfl (lv_at hl 3 rfl) ?_
          refine lv_bipush (v := nI 10) hx hb dX0_code_61 (by decide) ?_
          refine om_icmp_gt (tgt := 95) hx hb dX0_code_63 (by decide) (by omega) (by omega) (fun c_63 => ?_) (fun c_63 => ?_)
          · exfalso; omega
          · refine lv_iload_n hx hb dX0_code_66 rfl (lv_at hl 2 rfl) ?_
            refine om_if_lt (tgt := 95) hx hb dX0_code_67 (by decide) (by omega) ?_
            refine lv_aload_n hx hb dX0_code_70 rfl (lv_at hl 0 rfl) ?_
            refine lv_iload_n hx hb dX0_code_71 rfl (lv_at hl 2 rfl) ?_
            refine lv_iload_n hx hb dX0_code_72 rfl (lv_at hl 1 rfl) ?_
            refine om_calli (Wr := []) (As := [.int (nI K), .int (nI i)]) (rest := []) C w (mX_fitsPattern l D d h tx mt pt bl2 ab2 fl2 len (nI k) kn (nI 1) K i hinv.2.1 (by have := hinv.1; omega) (by omega) (om_bel_ix (hnb K (by have := hinv.1; omega)).1) (om_abo_ix (hnb K (by have := hinv.1; omega)).2)) [0, 1, 2, 3, 4, 5, 6] [] rfl rfl rfl rfl (by decide) rfl rfl (cwV 2 C.1.2.2.2.2 (lw_V q115 q117 qs4 q13 q118) rfl rfl rfl (by decide +kernel) ⟨Nat.le_of_ble_eq_true rfl, Nat.le_of_ble_eq_true rfl⟩) rfl hl.1 rfl (Nat.le_of_ble_eq_true rfl) dX0_code_73 ⟨Nat.zero_le _, Nat.zero_le _⟩ (fun r_4 u_4 H locs hp_4 w => ?_)
            subst hp_4
            have w : om_H D A s (om_X h d tx mt pt bl2 ab2 fl2 len (nI k) kn (nI 1)) H locs := w
            have hfi := om_fit_iff (G := fun j => pt (i - K + j)) (by have := hinv.1; omega) (hnb K (by have := hinv.1; omega)).1 (hnb K (by have := hinv.1; omega)).2 hinv.2.2.1
            refine om_if_eqB (tgt := 82) hx hb dX0_code_76 (by decide) (fun c_76 => ?_) (fun c_76 => ?_)
            · have hnf : ¬ om_iso pt (fun j => pt (i - K + j)) (K + 1) := fun z => by rw [hfi.mpr z] at c_76; cases c_76
              have hK0 : 0 < K := by
                rcases Nat.eq_zero_or_pos K with z | z
                · rw [z] at hnf; exact absurd om_iso_1 hnf
                · exact z
              have hKi := hinv.1
              have hwl := om_wd_le pt K
              refine lv_aload_n hx hb dX0_code_82 rfl (lv_at hl 0 rfl) ?_
              refine xg_fl C w dX0_code_83 ?_
              refine lv_iload_n hx hb dX0_code_86 rfl (lv_at hl 2 rfl) ?_
              refine xl_fl C w (i := K) (by omega) dX0_code_87 ?_
              refine lv_topi (fun y_ ey_ => ?_)
              have ey_ : y_ = nI (om_wd pt K) := ey_.trans (hfl K hK0 (by omega))
              subst ey_
              refine lv_istore_n (lv' := [(2, .int (nI (om_wd pt K))), (0, .ref (h 0)), (1, .int (nI i)), (3, .int (nI tn))]) hx hb dX0_code_88 rfl hl (by decide) rfl (fun ls hl => ?_)
              refine lv_iinc (v := nI (tn + 1)) (lv' := [(3, .int (nI (tn + 1))), (2, .int (nI (om_wd pt K))), (0, .ref (h 0)), (1, .int (nI i))]) hx hb dX0_code_89 hl (k := 3) rfl (nI_add _ 1) (by decide) rfl (fun ls hl => ?_)
              refine lv_goto (tgt := 60) hx hb dX0_code_92 (by decide) ?_
              exact ih_60 (om_wd pt K) (tn + 1) _ _ _ (by first | omega | (dsimp only; omega)) ⟨om_inv_next hinv hnf hK0, by omega, w, lv_sub hl [2, 3, 1, 0] rfl⟩
            · have hval : nI (K + 1) = nI (om_wd pt (i + 1)) := by rw [om_inv_wd hinv (hfi.mp c_76)]
              have hKi := hinv.1
              refine lv_goto (tgt := 95) hx hb dX0_code_79 (by decide) ?_
              refine lv_aload_n hx hb dX0_code_95 rfl (lv_at hl 0 rfl) ?_
              refine xg_fl C w dX0_code_96 ?_
              refine lv_iload_n hx hb dX0_code_99 rfl (lv_at hl 1 rfl) ?_
              refine lv_iconst (v := nI 1) hx hb dX0_code_100 (by decide) ?_
              refine om_iadd hx hb dX0_code_101 ?_
              refine lv_iload_n hx hb dX0_code_102 rfl (lv_at hl 2 rfl) ?_
              refine lv_iconst (v := nI 1) hx hb dX0_code_103 (by decide) ?_
              refine om_iadd hx hb dX0_code_104 ?_
              refine xs_fl C w (i := i + 1) (by omega) dX0_code_105 (fun H locs w => ?_)
              refine lv_iinc (v := nI (i + 1)) (lv' := [(1, .int (nI (i + 1))), (0, .ref (h 0)), (2, .int (nI K)), (3, .int (nI tn))]) hx hb dX0_code_106 hl (k := 1) rfl (nI_add _ 1) (by decide) rfl (fun ls hl => ?_)
              refine lv_goto (tgt := 43) hx hb dX0_code_109 (by decide) ?_
              exact ih_43 (i + 1) (upd fl2 (i + 1) (nI (K + 1))) _ _ _ (by first | omega | (dsimp only; omega)) ⟨by omega, (by rw [pk_un (by omega)]; exact hf0), (fun t t1 t2 => by
                                                      rcases Nat.lt_or_ge t (i + 1) with z | z
                                                      · rw [pk_un (by omega)]; exact hfl t t1 (by omega)
                                                      · have e : t = i + 1 := by omega
                                                        rw [e, pk_us, hval]), w, lv_sub hl [1, 0] rfl⟩
    · refine lv_aload_n hx hb dX0_code_23 rfl (lv_at hl 0 rfl) ?_
      refine lv_iload_n hx hb dX0_code_24 rfl (lv_at hl 1 rfl) ?_
      refine om_callv (Wr := []) (As := [.int (nI i)]) (rest := []) C w (mX_findNb l D d h tx mt pt bl2 ab2 fl len (nI k) kn (nI 1) i (by omega)) [0, 1, 2, 3, 4, 5, 6] [] rfl rfl rfl rfl (by decide) rfl rfl (cwV 1 C.1.2.2.2.2 (lw_V q111 q113 qs3 q13 q114) rfl rfl rfl (by decide +kernel) ⟨Nat.le_of_ble_eq_true rfl, Nat.le_of_ble_eq_true rfl⟩) rfl hl.1 rfl (Nat.le_of_ble_eq_true rfl) dX0_code_25 ⟨Nat.zero_le _, Nat.zero_le _⟩ (fun u_5 H locs hp_5 w => ?_)
      obtain ⟨bl3, ab3⟩ := u_5
      obtain ⟨e1, e2, e3, e4⟩ := hp_5
      dsimp only at e1 e2 e3 e4
      have w : om_H D A s (om_X h d tx mt pt bl3 ab3 fl len (nI k) kn (nI 1)) H locs := w
      refine lv_iinc (v := nI (i + 1)) (lv' := [(1, .int (nI (i + 1))), (0, .ref (h 0))]) hx hb dX0_code_28 hl (k := 1) rfl (nI_add _ 1) (by decide) rfl (fun ls hl => ?_)
      refine lv_goto (tgt := 15) hx hb dX0_code_31 (by decide) ?_
      exact ih_15 (i + 1) bl3 ab3 _ _ _ (by first | omega | (dsimp only; omega)) ⟨by omega, lt_s (fun t ht => by rw [e1 t (by omega), e2 t (by omega)]; exact hnb t ht) ⟨e3, e4⟩, w, lv_sub hl [1, 0] rfl⟩
  · rcases hc with hc | ⟨hc, hcod⟩
    · exact absurd (hc.trans nI_0) c_4
    · subst hc
      exact om_vret (bl, ab, fl) C hr hlocks w hcod dX0_code_7
end
section
set_option maxHeartbeats 4000000 in
set_option maxRecDepth 100000 in
/-- refresh() -/
theorem mX_refresh (l : Launch) (D : va_G) (d : ClassId) (h : Nat → Nat) (tx mt pt bl ab fl : Nat → Int32) (cd : Int32) (n k z : Nat) (hn : n ≤ 60) (hk : k ≤ 10) (hz : z ≤ n) (hmt : ∀ t, t < z → mt t = nI (om_mt tx pt k t)) (hc : cd = nI 0 ∨ (cd = nI 1 ∧ om_cod pt k bl ab fl)) : om_Mv l yX0_refresh cX0_refresh 4 none { frames := 3, cells := 0, slots := 0, locals := 90 } D d [.ref (h 0)] (om_X h d tx mt pt bl ab fl (nI n) (nI k) (nI z) cd) (fun (u : (Nat → Int32) × (Nat → Int32) × (Nat → Int32) × (Nat → Int32)) => om_cod pt k u.2.1 u.2.2.1 u.2.2.2 ∧ ∀ t, t < n → u.1 t = nI (om_mt tx pt k t)) (fun u => om_X h d tx u.1 pt u.2.1 u.2.2.1 u.2.2.2 (nI n) (nI k) (nI n) (nI 1)) := by
  intro sz
  refine om_enter (by decide) (Nat.le_of_ble_eq_true rfl) ?_
  intro p e s m below meth c ls C hr hlocks w hl
  generalize va_A (om_X h d tx mt pt bl ab fl (nI n) (nI k) (nI z) cd) sz = A at C w ⊢
  have C : om_C p m c cX0_refresh 4 s _ RX0 D d A := C
  have hx := C.1.1
  have hb := C.1.2.1
  have hl : lv_has ls 4 [(0, .ref (h 0))] := hl
  refine lv_aload_n hx hb dX0_refresh_0 rfl (lv_at hl 0 rfl) ?_
  refine om_callv (Wr := []) (As := []) (rest := []) C w (mX_code l D d h tx mt pt bl ab fl (nI n) (nI z) cd k hk hc) [0, 1, 2, 3, 4, 5, 6] [] rfl rfl rfl rfl (by decide) rfl rfl (cwV 0 C.1.2.2.2.2 (lw_V q107 q109 qs2 q13 q110) rfl rfl rfl (by decide +kernel) ⟨Nat.le_of_ble_eq_true rfl, Nat.le_of_ble_eq_true rfl⟩) rfl hl.1 rfl (Nat.le_of_ble_eq_true rfl) dX0_refresh_1 ⟨Nat.zero_le _, Nat.zero_le _⟩ (fun u_1 H locs hp_1 w => ?_)
  obtain ⟨bl2, ab2, fl2⟩ := u_1
  have hcod : om_cod pt k bl2 ab2 fl2 := hp_1
  obtain ⟨hnb, hf0, hfl⟩ := hcod
  have w : om_H D A s (om_X h d tx mt pt bl2 ab2 fl2 (nI n) (nI k) (nI z) (nI 1)) H locs := w
  refine lv_aload_n hx hb dX0_refresh_4 rfl (lv_at hl 0 rfl) ?_
  refine xg_kn C w dX0_refresh_5 ?_
  refine lv_istore_n (lv' := [(1, .int (nI z)), (0, .ref (h 0))]) hx hb dX0_refresh_8 rfl hl (by decide) rfl (fun ls hl => ?_)
  refine om_loop2 (α := Nat) (β := (Nat → Int32)) (I := fun x mt2 H locs ls => (x ≤ n) ∧ (∀ t, t < x → mt2 t = nI (om_mt tx pt k t)) ∧ om_H D A s (om_X h d tx mt2 pt bl2 ab2 fl2 (nI n) (nI k) (nI z) (nI 1)) H locs ∧ lv_has ls 4 [(0, .ref (h 0)), (1, .int (nI x))]) (μ := fun x mt2 => n - x) ?_ z mt _ _ _ ⟨hz, hmt, w, lv_sub hl [1, 0] rfl⟩
  intro x mt2 H locs ls hI ih_9
  obtain ⟨hx60, hm, w, hl⟩ := hI
  refine lv_iload_n hx hb dX0_refresh_9 rfl (lv_at hl 1 rfl) ?_
  refine lv_aload_n hx hb dX0_refresh_10 rfl (lv_at hl 0 rfl) ?_
  refine xg_len C w dX0_refresh_11 ?_
  refine om_icmp_ge (tgt := 112) hx hb dX0_refresh_14 (by decide) (by omega) (by omega) (fun c_14 => ?_) (fun c_14 => ?_)
  · refine lv_aload_n hx hb dX0_refresh_112 rfl (lv_at hl 0 rfl) ?_
    refine lv_aload_n hx hb dX0_refresh_113 rfl (lv_at hl 0 rfl) ?_
    refine xg_len C w dX0_refresh_114 ?_
    refine xp_kn C w dX0_refresh_117 (fun H locs w => ?_)
    exact om_vret (mt2, bl2, ab2, fl2) C hr hlocks w (⟨⟨hnb, hf0, hfl⟩, fun t ht => hm t (by omega)⟩) dX0_refresh_120
  · rcases Nat.eq_zero_or_pos k with hk0 | hk0
    · have hval : nI 0 = nI (om_mt tx pt k x) := by have := om_mt_le tx pt k x; rw [show om_mt tx pt k x = 0 by omega]
      refine lv_iload_n hx hb dX0_refresh_17 rfl (lv_at hl 1 rfl) ?_
      refine om_if_le (tgt := 32) hx hb dX0_refresh_18 (by decide) (by omega) (fun c_18 => ?_) (fun c_18 => ?_)
      · refine lv_iconst (v := nI 0) hx hb dX0_refresh_32 (by decide) ?_
        refine lv_istore_n (lv' := [(2, .int (nI 0)), (0, .ref (h 0)), (1, .int (nI x))]) hx hb dX0_refresh_33 rfl hl (by decide) rfl (fun ls hl => ?_)
        refine lv_iload_n hx hb dX0_refresh_34 rfl (lv_at hl 0 rfl) ?_
        refine lv_aload_n hx hb dX0_refresh_35 rfl (lv_at hl 1 rfl) ?_
        refine xg_siz C w dX0_refresh_36 ?_
        refine om_icmp_ne (tgt := 49) hx hb dX0_refresh_39 (by decide) (by omega) (by omega) (fun c_39 => ?_) (fun c_39 => ?_)
        · exfalso
          have := om_mt_le tx pt k (x - 1)
          omega
        · refine lv_aload_n hx hb dX0_refresh_42 rfl (lv_at hl 1 rfl) ?_
          refine xg_fl C w dX0_refresh_43 ?_
          refine lv_iload_n hx hb dX0_refresh_46 rfl (lv_at hl 0 rfl) ?_
          refine xl_fl C w (i := 0) (by omega) dX0_refresh_47 ?_
          refine lv_topi (fun y_ ey_ => ?_)
          have ey_ : y_ = (-1) := ey_.trans (hf0)
          subst ey_
          refine lv_istore_n (lv' := [(2, .int (-1)), (0, .ref (h 0)), (1, .int (nI x))]) hx hb dX0_refresh_48 rfl hl (by decide) rfl (fun ls hl => ?_)
          refine lv_iconst (v := nI 0) hx hb dX0_refresh_49 (by decide) ?_
          refine lv_istore_n (lv' := [(3, .int (nI 0)), (2, .int (-1)), (0, .ref (h 0)), (1, .int (nI x))]) hx hb dX0_refresh_50 rfl hl (by decide) rfl (fun ls hl => ?_)
          refine lv_iload_n hx hb dX0_refresh_51 rfl (lv_at hl 0 rfl) ?_
          refine lv_bipush (v := nI 10) hx hb dX0_refresh_52 (by decide) ?_
          refine om_icmp_gt (tgt := 86) hx hb dX0_refresh_54 (by decide) (by omega) (by omega) (fun c_54 => ?_) (fun c_54 => ?_)
          · exfalso; omega
          · refine lv_iload_n hx hb dX0_refresh_57 rfl (lv_at hl 1 rfl) ?_
            refine lv_if_lt (tgt := 86) hx hb dX0_refresh_58 (by decide) (fun c_58 => ?_) (fun c_58 => ?_)
            · refine lv_aload_n hx hb dX0_refresh_86 rfl (lv_at hl 2 rfl) ?_
              refine xg_mt C w dX0_refresh_87 ?_
              refine lv_iload_n hx hb dX0_refresh_90 rfl (lv_at hl 3 rfl) ?_
              refine lv_aload_n hx hb dX0_refresh_91 rfl (lv_at hl 2 rfl) ?_
              refine xg_siz C w dX0_refresh_92 ?_
              refine om_if_ne (tgt := 102) hx hb dX0_refresh_95 (by decide) (by omega) (fun c_95 => ?_) (fun c_95 => ?_)
              · exfalso; omega
              · refine lv_iconst (v := nI 0) hx hb dX0_refresh_98 (by decide) ?_
                refine lv_goto (tgt := 105) hx hb dX0_refresh_99 (by decide) ?_
                refine xs_mt C w (i := x) (by omega) dX0_refresh_105 (fun H locs w => ?_)
                refine lv_iinc (v := nI (x + 1)) (lv' := [(1, .int (nI (x + 1))), (3, .int (nI 0)), (2, .int (-1)), (0, .ref (h 0))]) hx hb dX0_refresh_106 hl (k := 3) rfl (nI_add _ 1) (by decide) rfl (fun ls hl => ?_)
                refine lv_goto (tgt := 9) hx hb dX0_refresh_109 (by decide) ?_
                exact ih_9 (x + 1) (upd mt2 x (nI 0)) _ _ _ (by first | omega | (dsimp only; omega)) ⟨by omega, lt_s (fun t ht => by rw [pk_un (by omega)]; exact hm t ht) (by rw [pk_us]; exact hval), w, lv_sub hl [3, 0] rfl⟩
            · exact absurd (by decide) c_58
      · refine lv_aload_n hx hb dX0_refresh_21 rfl (lv_at hl 0 rfl) ?_
        refine xg_mt C w dX0_refresh_22 ?_
        refine lv_iload_n hx hb dX0_refresh_25 rfl (lv_at hl 1 rfl) ?_
        refine lv_iconst (v := nI 1) hx hb dX0_refresh_26 (by decide) ?_
        refine om_isub hx hb (by omega) dX0_refresh_27 ?_
        refine xl_mt C w (i := x - 1) (by omega) dX0_refresh_28 ?_
        refine lv_topi (fun y_ ey_ => ?_)
        have ey_ : y_ = nI (om_mt tx pt k (x - 1)) := ey_.trans (hm (x - 1) (by omega))
        subst ey_
        have hmle := om_mt_le tx pt k (x - 1)
        refine lv_goto (tgt := 33) hx hb dX0_refresh_29 (by decide) ?_
        refine lv_istore_n (lv' := [(2, .int (nI (om_mt tx pt k (x - 1)))), (0, .ref (h 0)), (1, .int (nI x))]) hx hb dX0_refresh_33 rfl hl (by decide) rfl (fun ls hl => ?_)
        refine lv_iload_n hx hb dX0_refresh_34 rfl (lv_at hl 0 rfl) ?_
        refine lv_aload_n hx hb dX0_refresh_35 rfl (lv_at hl 1 rfl) ?_
        refine xg_siz C w dX0_refresh_36 ?_
        refine om_icmp_ne (tgt := 49) hx hb dX0_refresh_39 (by decide) (by omega) (by omega) (fun c_39 => ?_) (fun c_39 => ?_)
        · exfalso
          have := om_mt_le tx pt k (x - 1)
          omega
        · refine lv_aload_n hx hb dX0_refresh_42 rfl (lv_at hl 1 rfl) ?_
          refine xg_fl C w dX0_refresh_43 ?_
          refine lv_iload_n hx hb dX0_refresh_46 rfl (lv_at hl 0 rfl) ?_
          refine xl_fl C w (i := om_mt tx pt k (x - 1)) (by omega) dX0_refresh_47 ?_
          refine lv_topi (fun y_ ey_ => ?_)
          have ey_ : y_ = (-1) := ey_.trans (by have := om_mt_le tx pt k (x - 1); rw [show om_mt tx pt k (x - 1) = 0 by omega]; exact hf0)
          subst ey_
          refine lv_istore_n (lv' := [(2, .int (-1)), (0, .ref (h 0)), (1, .int (nI x))]) hx hb dX0_refresh_48 rfl hl (by decide) rfl (fun ls hl => ?_)
          refine lv_iconst (v := nI 0) hx hb dX0_refresh_49 (by decide) ?_
          refine lv_istore_n (lv' := [(3, .int (nI 0)), (2, .int (-1)), (0, .ref (h 0)), (1, .int (nI x))]) hx hb dX0_refresh_50 rfl hl (by decide) rfl (fun ls hl => ?_)
          refine lv_iload_n hx hb dX0_refresh_51 rfl (lv_at hl 0 rfl) ?_
          refine lv_bipush (v := nI 10) hx hb dX0_refresh_52 (by decide) ?_
          refine om_icmp_gt (tgt := 86) hx hb dX0_refresh_54 (by decide) (by omega) (by omega) (fun c_54 => ?_) (fun c_54 => ?_)
          · exfalso; omega
          · refine lv_iload_n hx hb dX0_refresh_57 rfl (lv_at hl 1 rfl) ?_
            refine lv_if_lt (tgt := 86) hx hb dX0_refresh_58 (by decide) (fun c_58 => ?_) (fun c_58 => ?_)
            · refine lv_aload_n hx hb dX0_refresh_86 rfl (lv_at hl 2 rfl) ?_
              refine xg_mt C w dX0_refresh_87 ?_
              refine lv_iload_n hx hb dX0_refresh_90 rfl (lv_at hl 3 rfl) ?_
              refine lv_aload_n hx hb dX0_refresh_91 rfl (lv_at hl 2 rfl) ?_
              refine xg_siz C w dX0_refresh_92 ?_
              refine om_if_ne (tgt := 102) hx hb dX0_refresh_95 (by decide) (by omega) (fun c_95 => ?_) (fun c_95 => ?_)
              · exfalso; omega
              · refine lv_iconst (v := nI 0) hx hb dX0_refresh_98 (by decide) ?_
                refine lv_goto (tgt := 105) hx hb dX0_refresh_99 (by decide) ?_
                refine xs_mt C w (i := x) (by omega) dX0_refresh_105 (fun H locs w => ?_)
                refine lv_iinc (v := nI (x + 1)) (lv' := [(1, .int (nI (x + 1))), (3, .int (nI 0)), (2, .int (-1)), (0, .ref (h 0))]) hx hb dX0_refresh_106 hl (k := 3) rfl (nI_add _ 1) (by decide) rfl (fun ls hl => ?_)
                refine lv_goto (tgt := 9) hx hb dX0_refresh_109 (by decide) ?_
                exact ih_9 (x + 1) (upd mt2 x (nI 0)) _ _ _ (by first | omega | (dsimp only; omega)) ⟨by omega, lt_s (fun t ht => by rw [pk_un (by omega)]; exact hm t ht) (by rw [pk_us]; exact hval), w, lv_sub hl [3, 0] rfl⟩
            · exact absurd (by decide) c_58
    · refine om_join1 (α := Nat) (pc2 := 49) (I := fun K H locs ls => (om_inv pt tx k x K) ∧ om_H D A s (om_X h d tx mt2 pt bl2 ab2 fl2 (nI n) (nI k) (nI z) (nI 1)) H locs ∧ lv_has ls 4 [(0, .ref (h 0)), (1, .int (nI x)), (2, .int (nI K))]) ?_ ?_
      · intro K H locs ls hI
        obtain ⟨hinv, w, hl⟩ := hI
        refine lv_iconst (v := nI 0) hx hb dX0_refresh_49 (by decide) ?_
        refine lv_istore_n (lv' := [(3, .int (nI 0)), (0, .ref (h 0)), (1, .int (nI x)), (2, .int (nI K))]) hx hb dX0_refresh_50 rfl hl (by decide) rfl (fun ls hl => ?_)
        refine om_loop2 (α := Nat) (β := Nat) (I := fun K tn H locs ls => (om_inv pt tx k x K) ∧ (K + tn ≤ 9) ∧ om_H D A s (om_X h d tx mt2 pt bl2 ab2 fl2 (nI n) (nI k) (nI z) (nI 1)) H locs ∧ lv_has ls 4 [(0, .ref (h 0)), (1, .int (nI x)), (2, .int (nI K)), (3, .int (nI tn))]) (μ := fun K tn => K) ?_ K 0 _ _ _ ⟨hinv, (by have := hinv.1; omega), w, lv_sub hl [1, 2, 3, 0] rfl⟩
        intro K tn H locs ls hI ih_51
        obtain ⟨hinv, htn, w, hl⟩ := hI
        refine lv_iload_n hx hb dX0_refresh_51 rfl (lv_at hl 3 rfl) ?_
        refine lv_bipush (v := nI 10) hx hb dX0_refresh_52 (by decide) ?_
        refine om_icmp_gt (tgt := 86) hx hb dX0_refresh_54 (by decide) (by omega) (by omega) (fun c_54 => ?_) (fun c_54 => ?_)
        · exfalso; omega
        · refine lv_iload_n hx hb dX0_refresh_57 rfl (lv_at hl 2 rfl) ?_
          refine om_if_lt (tgt := 86) hx hb dX0_refresh_58 (by decide) (by omega) ?_
          refine lv_aload_n hx hb dX0_refresh_61 rfl (lv_at hl 0 rfl) ?_
          refine lv_iload_n hx hb dX0_refresh_62 rfl (lv_at hl 2 rfl) ?_
          refine lv_iload_n hx hb dX0_refresh_63 rfl (lv_at hl 1 rfl) ?_
          refine om_calli (Wr := []) (As := [.int (nI K), .int (nI x)]) (rest := []) C w (mX_fitsText l D d h tx mt2 pt bl2 ab2 fl2 (nI n) (nI k) (nI z) (nI 1) K x hinv.2.1 (by have := hinv.1; omega) (by omega) (om_bel_ix (hnb K hinv.1).1) (om_abo_ix (hnb K hinv.1).2)) [0, 1, 2, 3, 4, 5, 6] [] rfl rfl rfl rfl (by decide) rfl rfl (cwV 2 C.1.2.2.2.2 (lw_V q123 q125 qs6 q13 q126) rfl rfl rfl (by decide +kernel) ⟨Nat.le_of_ble_eq_true rfl, Nat.le_of_ble_eq_true rfl⟩) rfl hl.1 rfl (Nat.le_of_ble_eq_true rfl) dX0_refresh_64 ⟨Nat.zero_le _, Nat.zero_le _⟩ (fun r_4 u_4 H locs hp_4 w => ?_)
          subst hp_4
          have w : om_H D A s (om_X h d tx mt2 pt bl2 ab2 fl2 (nI n) (nI k) (nI z) (nI 1)) H locs := w
          have hfi := om_fit_iff (G := fun j => tx (x - K + j)) (by have := hinv.1; omega) (hnb K hinv.1).1 (hnb K hinv.1).2 hinv.2.2.1
          refine om_if_eqB (tgt := 73) hx hb dX0_refresh_67 (by decide) (fun c_67 => ?_) (fun c_67 => ?_)
          · have hnf : ¬ om_iso pt (fun j => tx (x - K + j)) (K + 1) := fun z => by rw [hfi.mpr z] at c_67; cases c_67
            have hK0 : 0 < K := by
              rcases Nat.eq_zero_or_pos K with z | z
              · rw [z] at hnf; exact absurd om_iso_1 hnf
              · exact z
            have hKi := hinv.1
            have hwl := om_wd_le pt K
            refine lv_aload_n hx hb dX0_refresh_73 rfl (lv_at hl 0 rfl) ?_
            refine xg_fl C w dX0_refresh_74 ?_
            refine lv_iload_n hx hb dX0_refresh_77 rfl (lv_at hl 2 rfl) ?_
            refine xl_fl C w (i := K) (by omega) dX0_refresh_78 ?_
            refine lv_topi (fun y_ ey_ => ?_)
            have ey_ : y_ = nI (om_wd pt K) := ey_.trans (hfl K hK0 (by omega))
            subst ey_
            refine lv_istore_n (lv' := [(2, .int (nI (om_wd pt K))), (0, .ref (h 0)), (1, .int (nI x)), (3, .int (nI tn))]) hx hb dX0_refresh_79 rfl hl (by decide) rfl (fun ls hl => ?_)
            refine lv_iinc (v := nI (tn + 1)) (lv' := [(3, .int (nI (tn + 1))), (2, .int (nI (om_wd pt K))), (0, .ref (h 0)), (1, .int (nI x))]) hx hb dX0_refresh_80 hl (k := 3) rfl (nI_add _ 1) (by decide) rfl (fun ls hl => ?_)
            refine lv_goto (tgt := 51) hx hb dX0_refresh_83 (by decide) ?_
            exact ih_51 (om_wd pt K) (tn + 1) _ _ _ (by first | omega | (dsimp only; omega)) ⟨om_inv_next hinv hnf hK0, by omega, w, lv_sub hl [2, 3, 1, 0] rfl⟩
          · have hval : nI (K + 1) = nI (om_mt tx pt k x) := by rw [om_inv_mt hinv (hfi.mp c_67)]
            have hKi := hinv.1
            refine lv_goto (tgt := 86) hx hb dX0_refresh_70 (by decide) ?_
            refine lv_aload_n hx hb dX0_refresh_86 rfl (lv_at hl 0 rfl) ?_
            refine xg_mt C w dX0_refresh_87 ?_
            refine lv_iload_n hx hb dX0_refresh_90 rfl (lv_at hl 1 rfl) ?_
            refine lv_aload_n hx hb dX0_refresh_91 rfl (lv_at hl 0 rfl) ?_
            refine xg_siz C w dX0_refresh_92 ?_
            refine om_if_ne (tgt := 102) hx hb dX0_refresh_95 (by decide) (by omega) (fun c_95 => ?_) (fun c_95 => ?_)
            · refine lv_iload_n hx hb dX0_refresh_102 rfl (lv_at hl 2 rfl) ?_
              refine lv_iconst (v := nI 1) hx hb dX0_refresh_103 (by decide) ?_
              refine om_iadd hx hb dX0_refresh_104 ?_
              refine xs_mt C w (i := x) (by omega) dX0_refresh_105 (fun H locs w => ?_)
              refine lv_iinc (v := nI (x + 1)) (lv' := [(1, .int (nI (x + 1))), (0, .ref (h 0)), (2, .int (nI K)), (3, .int (nI tn))]) hx hb dX0_refresh_106 hl (k := 1) rfl (nI_add _ 1) (by decide) rfl (fun ls hl => ?_)
              refine lv_goto (tgt := 9) hx hb dX0_refresh_109 (by decide) ?_
              exact ih_9 (x + 1) (upd mt2 x (nI (K + 1))) _ _ _ (by first | omega | (dsimp only; omega)) ⟨by omega, lt_s (fun t ht => by rw [pk_un (by omega)]; exact hm t ht) (by rw [pk_us]; exact hval), w, lv_sub hl [1, 0] rfl⟩
            · exfalso; omega
      · intro j_49
        refine lv_iload_n hx hb dX0_refresh_17 rfl (lv_at hl 1 rfl) ?_
        refine om_if_le (tgt := 32) hx hb dX0_refresh_18 (by decide) (by omega) (fun c_18 => ?_) (fun c_18 => ?_)
        · refine lv_iconst (v := nI 0) hx hb dX0_refresh_32 (by decide) ?_
          refine lv_istore_n (lv' := [(2, .int (nI 0)), (0, .ref (h 0)), (1, .int (nI x))]) hx hb dX0_refresh_33 rfl hl (by decide) rfl (fun ls hl => ?_)
          refine lv_iload_n hx hb dX0_refresh_34 rfl (lv_at hl 0 rfl) ?_
          refine lv_aload_n hx hb dX0_refresh_35 rfl (lv_at hl 1 rfl) ?_
          refine xg_siz C w dX0_refresh_36 ?_
          refine om_icmp_ne (tgt := 49) hx hb dX0_refresh_39 (by decide) (by omega) (by omega) (fun c_39 => ?_) (fun c_39 => ?_)
          · exact j_49 0 _ _ _ ⟨by rw [c_18]; exact om_inv_0 hk0, w, lv_sub hl [1, 2, 0] rfl⟩
          · exfalso; omega
        · refine lv_aload_n hx hb dX0_refresh_21 rfl (lv_at hl 0 rfl) ?_
          refine xg_mt C w dX0_refresh_22 ?_
          refine lv_iload_n hx hb dX0_refresh_25 rfl (lv_at hl 1 rfl) ?_
          refine lv_iconst (v := nI 1) hx hb dX0_refresh_26 (by decide) ?_
          refine om_isub hx hb (by omega) dX0_refresh_27 ?_
          refine xl_mt C w (i := x - 1) (by omega) dX0_refresh_28 ?_
          refine lv_topi (fun y_ ey_ => ?_)
          have ey_ : y_ = nI (om_mt tx pt k (x - 1)) := ey_.trans (hm (x - 1) (by omega))
          subst ey_
          have hmle := om_mt_le tx pt k (x - 1)
          refine lv_goto (tgt := 33) hx hb dX0_refresh_29 (by decide) ?_
          refine lv_istore_n (lv' := [(2, .int (nI (om_mt tx pt k (x - 1)))), (0, .ref (h 0)), (1, .int (nI x))]) hx hb dX0_refresh_33 rfl hl (by decide) rfl (fun ls hl => ?_)
          refine lv_iload_n hx hb dX0_refresh_34 rfl (lv_at hl 0 rfl) ?_
          refine lv_aload_n hx hb dX0_refresh_35 rfl (lv_at hl 1 rfl) ?_
          refine xg_siz C w dX0_refresh_36 ?_
          refine om_icmp_ne (tgt := 49) hx hb dX0_refresh_39 (by decide) (by omega) (by omega) (fun c_39 => ?_) (fun c_39 => ?_)
          · have hinv := om_inv_mt0 (tx := tx) (pt := pt) (k := k) (p := x - 1) (by have := om_mt_le tx pt k (x - 1); omega)
            rw [show x - 1 + 1 = x by omega] at hinv
            exact j_49 (om_mt tx pt k (x - 1)) _ _ _ ⟨hinv, w, lv_sub hl [1, 2, 0] rfl⟩
          · have hinv := om_inv_mtk (tx := tx) (pt := pt) (p := x - 1) hk0 c_39
            rw [show x - 1 + 1 = x by omega] at hinv
            refine lv_aload_n hx hb dX0_refresh_42 rfl (lv_at hl 1 rfl) ?_
            refine xg_fl C w dX0_refresh_43 ?_
            refine lv_iload_n hx hb dX0_refresh_46 rfl (lv_at hl 0 rfl) ?_
            refine xl_fl C w (i := om_mt tx pt k (x - 1)) (by omega) dX0_refresh_47 ?_
            refine lv_topi (fun y_ ey_ => ?_)
            have ey_ : y_ = nI (om_wd pt k) := ey_.trans (by rw [c_39]; exact hfl k hk0 (Nat.le_refl k))
            subst ey_
            refine lv_istore_n (lv' := [(2, .int (nI (om_wd pt k))), (0, .ref (h 0)), (1, .int (nI x))]) hx hb dX0_refresh_48 rfl hl (by decide) rfl (fun ls hl => ?_)
            exact j_49 (om_wd pt k) _ _ _ ⟨hinv, w, lv_sub hl [1, 2, 0] rfl⟩
end
section
/-! what the public methods answer, as functions; the invariant of an OrderMatcher -/
def om_I (tx mt pt bl ab fl : Nat → Int32) (n k z : Nat) (cd : Int32) : Prop := n ≤ 60 ∧ k ≤ 10 ∧ z ≤ n ∧ (∀ t, t < z → mt t = nI (om_mt tx pt k t)) ∧ (cd = nI 0 ∨ (cd = nI 1 ∧ om_cod pt k bl ab fl))
abbrev om_S : Type := (Nat → Int32) × (Nat → Int32) × (Nat → Int32) × (Nat → Int32) × (Nat → Int32) × (Nat → Int32) × Nat × Nat × Nat × Int32
def om_Xu (h : Nat → Nat) (d : ClassId) (u : om_S) : va_W := om_X h d u.1 u.2.1 u.2.2.1 u.2.2.2.1 u.2.2.2.2.1 u.2.2.2.2.2.1 (nI u.2.2.2.2.2.2.1) (nI u.2.2.2.2.2.2.2.1) (nI u.2.2.2.2.2.2.2.2.1) u.2.2.2.2.2.2.2.2.2
/-- the invariant, and what is said of text, pattern and their lengths -/
def om_po (F : (Nat → Int32) → (Nat → Int32) → Nat → Nat → Prop) (u : om_S) : Prop := om_I u.1 u.2.1 u.2.2.1 u.2.2.2.1 u.2.2.2.2.1 u.2.2.2.2.2.1 u.2.2.2.2.2.2.1 u.2.2.2.2.2.2.2.1 u.2.2.2.2.2.2.2.2.1 u.2.2.2.2.2.2.2.2.2 ∧ F u.1 u.2.2.1 u.2.2.2.2.2.2.1 u.2.2.2.2.2.2.2.1
abbrev om_T : Type := (Nat → Int32) × (Nat → Int32) × Nat × Nat
def om_Yu (h : Nat → Nat) (d : ClassId) (v : om_T) : va_W := om_Y h d v.1 v.2.1 (nI v.2.2.1) (nI v.2.2.2)
def om_pt (vl : Nat → Int32) : Nat → Int32 := fun j => vl (60 + j)
theorem om_I_ext {tx mt pt bl ab fl tx2 : Nat → Int32} {n k z n2 : Nat} {cd : Int32} (h : om_I tx mt pt bl ab fl n k z cd) (ht : ∀ j, j < n → tx2 j = tx j) (h1 : n ≤ n2) (h2 : n2 ≤ 60) : om_I tx2 mt pt bl ab fl n2 k z cd := by
  obtain ⟨a1, a2, a3, a4, a5⟩ := h
  refine ⟨h2, a2, by omega, fun t ht2 => ?_, a5⟩
  rw [a4 t ht2, om_mt_congr (fun j hj => (ht j (by omega)).symm) (fun _ _ => rfl)]
theorem om_I_new {tx mt pt bl ab fl : Nat → Int32} {n k : Nat} (h1 : n ≤ 60) (h2 : k ≤ 10) : om_I tx mt pt bl ab fl n k 0 (nI 0) := ⟨h1, h2, Nat.zero_le _, lt_0, Or.inl rfl⟩
theorem om_I_cut {tx mt pt bl ab fl : Nat → Int32} {n k z n2 z2 : Nat} {cd : Int32} (h : om_I tx mt pt bl ab fl n k z cd) (h1 : n2 ≤ n) (h2 : z2 ≤ n2) (h3 : z2 ≤ z) : om_I tx mt pt bl ab fl n2 k z2 cd := by
  obtain ⟨a1, a2, a3, a4, a5⟩ := h
  exact ⟨by omega, a2, h2, fun t ht => a4 t (by omega), a5⟩
theorem om_neg {x : Int32} (h : x < 0) : x.toInt < 0 := by
  rw [Int32.lt_iff_toInt_lt, Int32.toInt_zero] at h
  exact h
theorem om_lt1 {x : Int32} (h : x < nI 1) : x.toInt < 1 := by
  rw [Int32.lt_iff_toInt_lt, nI_toInt (by omega)] at h
  exact h
theorem om_ge1 {x : Int32} (h : ¬ x < nI 1) : ∃ c : Nat, 1 ≤ c ∧ c < 2 ^ 31 ∧ x = nI c := by
  rw [Int32.lt_iff_toInt_lt, nI_toInt (by omega)] at h
  obtain ⟨c, h1, h2⟩ := nI_of (x := x) (by rw [Int32.lt_iff_toInt_lt, Int32.toInt_zero]; omega)
  refine ⟨c, ?_, h1, h2⟩
  rw [h2, nI_toInt h1] at h
  omega
/-- an answer for an argument in a range -/
def om_rng (lo hi Q : Int) (bad : Int32) (good : Nat → Int32) : Int32 := if Q < lo ∨ hi < Q then bad else good Q.toNat
theorem om_rng_b {lo hi Q : Int} {bad : Int32} {good : Nat → Int32} (h : Q < lo ∨ hi < Q) : bad = om_rng lo hi Q bad good := (if_pos h).symm
theorem om_rng_g {lo hi : Int} {c : Nat} {bad : Int32} {good : Nat → Int32} (hc : c < 2 ^ 31) (h : lo ≤ (c : Int)) (h2 : (c : Int) ≤ hi) : good c = om_rng lo hi (nI c).toInt bad good := by
  unfold om_rng
  rw [nI_toInt hc, if_neg (by omega)]
  rfl
theorem om_rng_h {lo hi : Int} {c : Nat} {bad : Int32} {good : Nat → Int32} (hc : c < 2 ^ 31) (h : hi < (c : Int)) : bad = om_rng lo hi (nI c).toInt bad good := om_rng_b (Or.inr (by rw [nI_toInt hc]; exact h))
theorem om_rng_l {lo hi : Int} {c : Nat} {bad : Int32} {good : Nat → Int32} (hc : c < 2 ^ 31) (h : (c : Int) < lo) : bad = om_rng lo hi (nI c).toInt bad good := om_rng_b (Or.inl (by rw [nI_toInt hc]; exact h))
theorem om_rng_congr {lo hi Q : Int} {bad : Int32} {good good2 : Nat → Int32} (h : ∀ c : Nat, lo ≤ (c : Int) → (c : Int) ≤ hi → good c = good2 c) (hlo : 0 ≤ lo) : om_rng lo hi Q bad good = om_rng lo hi Q bad good2 := by
  unfold om_rng
  by_cases q : Q < lo ∨ hi < Q
  · rw [if_pos q, if_pos q]
  · rw [if_neg q, if_neg q]
    exact h _ (by omega) (by omega)
/-! take -/
def om_tk (n : Nat) (a b : Int) : Nat := if b < 0 ∨ 10 < b then 1 else if a < 0 ∨ (n : Int) < a + b then 2 else 0
def om_tkr (n : Nat) (a b : Int32) : Int32 := if om_tk n a.toInt b.toInt = 1 then -1 else if om_tk n a.toInt b.toInt = 2 then -2 else b
def om_tkk (n : Nat) (a b : Int) (k : Nat) : Nat := if om_tk n a b = 0 then b.toNat else k
def om_tkp (n : Nat) (a b : Int) (T P : Nat → Int32) (j : Nat) : Int32 := if om_tk n a b = 0 ∧ j < b.toNat then T (a.toNat + j) else P j
theorem om_tk1 {n : Nat} {a b : Int} (h : b < 0 ∨ 10 < b) : om_tk n a b = 1 := if_pos h
theorem om_tk2 {n : Nat} {a b : Int} (h1 : 0 ≤ b) (h2 : b ≤ 10) (h : a < 0 ∨ (n : Int) < a + b) : om_tk n a b = 2 := by
  unfold om_tk
  rw [if_neg (by omega), if_pos h]
theorem om_tk0 {n : Nat} {a b : Int} (h1 : 0 ≤ b) (h2 : b ≤ 10) (h3 : 0 ≤ a) (h : a + b ≤ n) : om_tk n a b = 0 := by
  unfold om_tk
  rw [if_neg (by omega), if_neg (by omega)]
/-- what take leaves when it says no -/
theorem om_tk_no {n k : Nat} {a b : Int} {T P : Nat → Int32} (h : ¬ om_tk n a b = 0) : om_tkk n a b k = k ∧ ∀ j, om_tkp n a b T P j = P j := ⟨if_neg h, fun j => if_neg (fun z => h z.1)⟩
theorem om_tk_yes {n k f c : Nat} {T P : Nat → Int32} (h1 : f < 2 ^ 31) (h2 : c ≤ 10) (h3 : f + c ≤ n) : om_tkr n (nI f) (nI c) = nI c ∧ om_tkk n (nI f).toInt (nI c).toInt k = c ∧ ∀ j, om_tkp n (nI f).toInt (nI c).toInt T P j = if j < c then T (f + j) else P j := by
  have e : om_tk n (nI f).toInt (nI c).toInt = 0 := by
    rw [nI_toInt h1, nI_toInt (by omega)]
    exact om_tk0 (by omega) (by omega) (by omega) (by omega)
  unfold om_tkr om_tkk om_tkp
  rw [e, nI_toInt h1, nI_toInt (n := c) (by omega)]
  refine ⟨rfl, rfl, fun j => ?_⟩
  simp only [true_and, Int.toNat_natCast]
/-! ramp -/
def om_rp (n : Nat) (q : Int) : Nat := if q < 1 ∨ 60 < q then 1 else if 60 < (n : Int) + q then 2 else 0
def om_rpr (n : Nat) (q : Int) : Int32 := if om_rp n q = 1 then -1 else if om_rp n q = 2 then -2 else nI (n + q.toNat)
def om_rpn (n : Nat) (q : Int) : Nat := if om_rp n q = 0 then n + q.toNat else n
def om_rpt (n : Nat) (q : Int) (a b : Int32) (T : Nat → Int32) (j : Nat) : Int32 := if om_rp n q = 0 ∧ n ≤ j ∧ j < n + q.toNat then a + nI (j - n) * b else T j
theorem om_rp1 {n : Nat} {q : Int} (h : q < 1 ∨ 60 < q) : om_rp n q = 1 := if_pos h
theorem om_rp2 {n : Nat} {q : Int} (h1 : 1 ≤ q) (h2 : q ≤ 60) (h : 60 < (n : Int) + q) : om_rp n q = 2 := by
  unfold om_rp
  rw [if_neg (by omega), if_pos h]
theorem om_rp0 {n : Nat} {q : Int} (h1 : 1 ≤ q) (h : (n : Int) + q ≤ 60) : om_rp n q = 0 := by
  unfold om_rp
  rw [if_neg (by omega), if_neg (by omega)]
theorem om_rp_no {n : Nat} {q : Int} {a b : Int32} {T : Nat → Int32} (h : ¬ om_rp n q = 0) : om_rpn n q = n ∧ ∀ j, om_rpt n q a b T j = T j := ⟨if_neg h, fun j => if_neg (fun z => h z.1)⟩
theorem om_rp_yes {n c : Nat} {a b : Int32} {T : Nat → Int32} (h1 : 1 ≤ c) (h3 : n + c ≤ 60) : om_rpr n (nI c).toInt = nI (n + c) ∧ om_rpn n (nI c).toInt = n + c ∧ ∀ j, om_rpt n (nI c).toInt a b T j = if n ≤ j ∧ j < n + c then a + nI (j - n) * b else T j := by
  have e : om_rp n (nI c).toInt = 0 := by
    rw [nI_toInt (by omega)]
    exact om_rp0 (by omega) (by omega)
  unfold om_rpr om_rpn om_rpt
  rw [e, nI_toInt (n := c) (by omega)]
  refine ⟨rfl, rfl, fun j => ?_⟩
  simp only [true_and, Int.toNat_natCast]
/-! echo -/
def om_ec (n : Nat) (q : Int) : Nat := if q < 0 ∨ q.toNat / 64 < 1 ∨ 20 < q.toNat / 64 then 1 else if n < q.toNat % 64 + q.toNat / 64 then 2 else if 60 < n + q.toNat / 64 then 3 else 0
def om_ecr (n : Nat) (q : Int) : Int32 := if om_ec n q = 1 then -1 else if om_ec n q = 2 then -2 else if om_ec n q = 3 then -3 else nI (n + q.toNat / 64)
def om_ecn (n : Nat) (q : Int) : Nat := if om_ec n q = 0 then n + q.toNat / 64 else n
def om_ect (n : Nat) (q : Int) (b a : Int32) (T : Nat → Int32) (j : Nat) : Int32 := if om_ec n q = 0 ∧ n ≤ j ∧ j < n + q.toNat / 64 then T (q.toNat % 64 + (j - n)) * b + a else T j
theorem om_ec1 {n : Nat} {q : Int} (h : q < 0 ∨ q.toNat / 64 < 1 ∨ 20 < q.toNat / 64) : om_ec n q = 1 := if_pos h
theorem om_ec2 {n c : Nat} (h1 : 1 ≤ c / 64) (h2 : c / 64 ≤ 20) (h : n < c % 64 + c / 64) (hc : c < 2 ^ 31) : om_ec n (nI c).toInt = 2 := by
  unfold om_ec
  rw [nI_toInt hc]
  simp only [Int.toNat_natCast]
  rw [if_neg (by omega), if_pos h]
theorem om_ec3 {n c : Nat} (h1 : 1 ≤ c / 64) (h2 : c / 64 ≤ 20) (h : c % 64 + c / 64 ≤ n) (h3 : 60 < n + c / 64) (hc : c < 2 ^ 31) : om_ec n (nI c).toInt = 3 := by
  unfold om_ec
  rw [nI_toInt hc]
  simp only [Int.toNat_natCast]
  rw [if_neg (by omega), if_neg (by omega), if_pos h3]
theorem om_ec_no {n : Nat} {q : Int} {a b : Int32} {T : Nat → Int32} (h : ¬ om_ec n q = 0) : om_ecn n q = n ∧ ∀ j, om_ect n q b a T j = T j := ⟨if_neg h, fun j => if_neg (fun z => h z.1)⟩
theorem om_ec_yes {n c : Nat} {a b : Int32} {T : Nat → Int32} (hc : c < 2 ^ 31) (h1 : 1 ≤ c / 64) (h2 : c / 64 ≤ 20) (h : c % 64 + c / 64 ≤ n) (h3 : n + c / 64 ≤ 60) : om_ecr n (nI c).toInt = nI (n + c / 64) ∧ om_ecn n (nI c).toInt = n + c / 64 ∧ ∀ j, om_ect n (nI c).toInt b a T j = if n ≤ j ∧ j < n + c / 64 then T (c % 64 + (j - n)) * b + a else T j := by
  have e : om_ec n (nI c).toInt = 0 := by
    unfold om_ec
    rw [nI_toInt hc]
    simp only [Int.toNat_natCast]
    rw [if_neg (by omega), if_neg (by omega), if_neg (by omega)]
  unfold om_ecr om_ecn om_ect
  rw [e, nI_toInt hc]
  refine ⟨rfl, rfl, fun j => ?_⟩
  simp only [true_and, Int.toNat_natCast]
theorem om_shr6 {c : Nat} (h : c < 2 ^ 31) : nI c >>> (nI 6 &&& 31) = nI (c / 64) := pk_shrN h _ 6 (by decide)
theorem om_and63 {c : Nat} (h : c < 2 ^ 31) : nI c &&& nI 63 = nI (c % 64) := pk_andN (by omega) 6 (by decide)
theorem om_shr_neg {q : Int32} (h : q < 0) : q >>> (nI 6 &&& 31) < nI 1 := by
  have e := pk_shr q (nI 6 &&& 31) 6 (by decide)
  rw [Int32.lt_iff_toInt_lt, e, nI_toInt (by omega), Int.shiftRight_eq_div_pow]
  have := om_neg h
  omega
/-! undo -/
def om_un (n : Nat) (q : Int) : Nat := if q < 0 ∨ (n : Int) < q then n else n - q.toNat
def om_unr (n : Nat) (q : Int) : Int32 := if q < 0 ∨ (n : Int) < q then -1 else nI (n - q.toNat)
theorem om_un_no {n : Nat} {q : Int} (h : q < 0 ∨ (n : Int) < q) : om_un n q = n ∧ om_unr n q = -1 := ⟨if_pos h, if_pos h⟩
theorem om_un_yes {n c : Nat} (hc : c < 2 ^ 31) (h : c ≤ n) : om_un n (nI c).toInt = n - c ∧ om_unr n (nI c).toInt = nI (n - c) := by
  unfold om_un om_unr
  rw [nI_toInt hc, if_neg (by omega), if_neg (by omega)]
  exact ⟨rfl, rfl⟩
/-! arrays that are filled -/
theorem om_fill0 {g P P2 : Nat → Int32} {i : Nat} (h : ∀ j, P2 j = if j < i then g j else P j) : ∀ j, upd P2 i (g i) j = if j < i + 1 then g j else P j := by
  intro j
  by_cases e : j = i
  · subst e
    rw [pk_us, if_pos (by omega)]
  · rw [pk_un e, h j]
    by_cases q : j < i
    · rw [if_pos q, if_pos (by omega)]
    · rw [if_neg q, if_neg (by omega)]
theorem om_fill {g P P2 : Nat → Int32} {lo i : Nat} (h : ∀ j, P2 j = if lo ≤ j ∧ j < lo + i then g (j - lo) else P j) : ∀ j, upd P2 (lo + i) (g i) j = if lo ≤ j ∧ j < lo + (i + 1) then g (j - lo) else P j := by
  intro j
  by_cases e : j = lo + i
  · subst e
    rw [pk_us, if_pos (by omega), show lo + i - lo = i by omega]
  · rw [pk_un e, h j]
    by_cases q : lo ≤ j ∧ j < lo + i
    · rw [if_pos q, if_pos (by omega)]
    · rw [if_neg q, if_neg (by omega)]
theorem om_ends {tx pt : Nat → Int32} {k x : Nat} {v : Int32} (h : v = nI (om_mt tx pt k x)) (hk : k ≤ 10) : (decide (0 < k) && decide (v = nI k)) = om_ed tx pt k x := by
  unfold om_ed
  have hle := om_mt_le tx pt k x
  have e : decide (v = nI k) = decide (om_mt tx pt k x = k) := by
    refine om_b_eq ?_
    rw [decide_eq_true_eq, decide_eq_true_eq, h]
    exact nI_eq (by omega) (by omega)
  rw [e]
theorem om_sub1 {x k : Nat} (h : k ≤ x + 1) : nI x - nI k + nI 1 = nI (x + 1 - k) := by
  rw [← pk_sub h, ← nI_add]
  grind
theorem om_dec {q : Int32} {c : Nat} : q - nI c + (-1) = q - nI (c + 1) := by
  rw [← nI_add]
  have : nI 1 = 1 := by decide
  rw [this]
  grind
theorem om_sub0 {q a : Int32} (h : q - a = 0) : q = a := by
  grind
theorem om_sub0n {q a : Int32} (h : ¬ q - a = 0) : ¬ q = a := by
  intro e
  rw [e] at h
  grind
section OM3
variable {p : Program} {l : Launch} {e : Env} {R : Room} {s : State} {m : MethodId} {args : Array Value} {below : List Frame} {meth : Method} {c : Code} {H : Heap} {locs : List Loc} {cells slots : Nat} {Q : State → Prop}
variable {cc : ByteArray} {nL pc : Nat} {ls : Array Slot} {rest : List Value}
theorem om_imul (hx : p.tables.exec = Jvm.exec) (hb : c.code = cc) {a b : Nat} (hdg : decode cc pc = .ok (.imul, 1)) (k : W p l e R s m args below meth c H locs cells slots Q (F0 m (pc + 1) ls (.int (nI (a * b)) :: rest))) : W p l e R s m args below meth c H locs cells slots Q (F0 m pc ls (.int (nI b) :: .int (nI a) :: rest)) :=
  lv_imul hx hb hdg (by rw [pk_mul]; exact k)
end OM3
end
section
set_option maxHeartbeats 4000000 in
set_option maxRecDepth 100000 in
/-- pattern -/
theorem mX_pattern (l : Launch) (D : va_G) (d : ClassId) (h : Nat → Nat) (tx mt pt bl ab fl : Nat → Int32) (n k z : Nat) (cd : Int32) (v : Int32) (hI : om_I tx mt pt bl ab fl n k z cd) : om_Mi l yX0_pattern cX0_pattern 2 (some .int) { frames := 1, cells := 0, slots := 0, locals := 30 } D d [.ref (h 0), .int v] (om_X h d tx mt pt bl ab fl (nI n) (nI k) (nI z) cd) (fun (r : Int32) (u : om_S) => om_po (fun tx2 pt2 n2 k2 => tx2 = tx ∧ n2 = n ∧ ((k = 10 ∧ r = -1 ∧ pt2 = pt ∧ k2 = k) ∨ (k < 10 ∧ r = nI (k + 1) ∧ pt2 = upd pt k v ∧ k2 = k + 1))) u) (om_Xu h d) := by
  intro sz
  refine om_enter (by decide) (Nat.le_of_ble_eq_true rfl) ?_
  intro p e s m below meth c ls C hr hlocks w hl
  generalize va_A (om_X h d tx mt pt bl ab fl (nI n) (nI k) (nI z) cd) sz = A at C w ⊢
  have C : om_C p m c cX0_pattern 2 s _ RX0 D d A := C
  have hx := C.1.1
  have hb := C.1.2.1
  have hl : lv_has ls 2 [(0, .ref (h 0)), (1, .int v)] := hl
  obtain ⟨hn, hk, hz, hmt, hc⟩ := id hI
  refine lv_aload_n hx hb dX0_pattern_0 rfl (lv_at hl 0 rfl) ?_
  refine xg_siz C w dX0_pattern_1 ?_
  refine lv_bipush (v := nI 10) hx hb dX0_pattern_4 (by decide) ?_
  refine om_icmp_ne (tgt := 11) hx hb dX0_pattern_6 (by decide) (by omega) (by omega) (fun c_6 => ?_) (fun c_6 => ?_)
  · refine lv_aload_n hx hb dX0_pattern_11 rfl (lv_at hl 0 rfl) ?_
    refine xg_pt C w dX0_pattern_12 ?_
    refine lv_aload_n hx hb dX0_pattern_15 rfl (lv_at hl 0 rfl) ?_
    refine xg_siz C w dX0_pattern_16 ?_
    refine lv_iload_n hx hb dX0_pattern_19 rfl (lv_at hl 1 rfl) ?_
    refine xs_pt C w (i := k) (by omega) dX0_pattern_20 (fun H locs w => ?_)
    refine lv_aload_n hx hb dX0_pattern_21 rfl (lv_at hl 0 rfl) ?_
    refine lv_dup hx hb dX0_pattern_22 rfl ?_
    refine xg_siz C w dX0_pattern_23 ?_
    refine lv_iconst (v := nI 1) hx hb dX0_pattern_26 (by decide) ?_
    refine om_iadd hx hb dX0_pattern_27 ?_
    refine xp_siz C w dX0_pattern_28 (fun H locs w => ?_)
    refine lv_aload_n hx hb dX0_pattern_31 rfl (lv_at hl 0 rfl) ?_
    refine om_callv (Wr := []) (As := []) (rest := []) C w (mX_changed l D d h tx mt (upd pt k v) bl ab fl (nI n) (nI (k + 1)) (nI z) cd) [0, 1, 2, 3, 4, 5, 6] [] rfl rfl rfl rfl (by decide) rfl rfl (cwV 0 C.1.2.2.2.2 (lw_V q59 q61 qs0 q13 q62) rfl rfl rfl (by decide +kernel) ⟨Nat.le_of_ble_eq_true rfl, Nat.le_of_ble_eq_true rfl⟩) rfl hl.1 rfl (Nat.le_of_ble_eq_true rfl) dX0_pattern_32 ⟨Nat.zero_le _, Nat.zero_le _⟩ (fun u_1 H locs hp_1 w => ?_)
    have w : om_H D A s (om_X h d tx mt (upd pt k v) bl ab fl (nI n) (nI (k + 1)) (nI 0) (nI 0)) H locs := w
    refine lv_aload_n hx hb dX0_pattern_35 rfl (lv_at hl 0 rfl) ?_
    refine xg_siz C w dX0_pattern_36 ?_
    have hI2 : om_I tx mt (upd pt k v) bl ab fl n (k + 1) 0 (nI 0) := om_I_new hn (by omega)
    exact om_iret (tx, mt, upd pt k v, bl, ab, fl, n, k + 1, 0, nI 0) C hr hlocks w ⟨hI2, ⟨rfl, rfl, Or.inr ⟨by omega, rfl, rfl, rfl⟩⟩⟩ dX0_pattern_39
  · refine lv_iconst (v := (-1)) hx hb dX0_pattern_9 (by decide) ?_
    have hI2 : om_I tx mt pt bl ab fl n k z cd := hI
    exact om_iret (tx, mt, pt, bl, ab, fl, n, k, z, cd) C hr hlocks w ⟨hI2, ⟨rfl, rfl, Or.inl ⟨c_6, rfl, rfl, rfl⟩⟩⟩ dX0_pattern_10
set_option maxHeartbeats 4000000 in
set_option maxRecDepth 100000 in
/-- clearPattern -/
theorem mX_clearPattern (l : Launch) (D : va_G) (d : ClassId) (h : Nat → Nat) (tx mt pt bl ab fl : Nat → Int32) (n k z : Nat) (cd : Int32) (hI : om_I tx mt pt bl ab fl n k z cd) : om_Mi l yX0_clearPattern cX0_clearPattern 2 (some .int) { frames := 1, cells := 0, slots := 0, locals := 30 } D d [.ref (h 0)] (om_X h d tx mt pt bl ab fl (nI n) (nI k) (nI z) cd) (fun (r : Int32) (u : om_S) => om_po (fun tx2 pt2 n2 k2 => tx2 = tx ∧ pt2 = pt ∧ n2 = n ∧ k2 = 0 ∧ r = nI k) u) (om_Xu h d) := by
  intro sz
  refine om_enter (by decide) (Nat.le_of_ble_eq_true rfl) ?_
  intro p e s m below meth c ls C hr hlocks w hl
  generalize va_A (om_X h d tx mt pt bl ab fl (nI n) (nI k) (nI z) cd) sz = A at C w ⊢
  have C : om_C p m c cX0_clearPattern 2 s _ RX0 D d A := C
  have hx := C.1.1
  have hb := C.1.2.1
  have hl : lv_has ls 2 [(0, .ref (h 0))] := hl
  obtain ⟨hn, hk, hz, hmt, hc⟩ := id hI
  refine lv_aload_n hx hb dX0_clearPattern_0 rfl (lv_at hl 0 rfl) ?_
  refine xg_siz C w dX0_clearPattern_1 ?_
  refine lv_istore_n (lv' := [(1, .int (nI k)), (0, .ref (h 0))]) hx hb dX0_clearPattern_4 rfl hl (by decide) rfl (fun ls hl => ?_)
  refine lv_aload_n hx hb dX0_clearPattern_5 rfl (lv_at hl 1 rfl) ?_
  refine lv_iconst (v := nI 0) hx hb dX0_clearPattern_6 (by decide) ?_
  refine xp_siz C w dX0_clearPattern_7 (fun H locs w => ?_)
  refine lv_aload_n hx hb dX0_clearPattern_10 rfl (lv_at hl 1 rfl) ?_
  refine om_callv (Wr := []) (As := []) (rest := []) C w (mX_changed l D d h tx mt pt bl ab fl (nI n) (nI 0) (nI z) cd) [0, 1, 2, 3, 4, 5, 6] [] rfl rfl rfl rfl (by decide) rfl rfl (cwV 0 C.1.2.2.2.2 (lw_V q59 q61 qs0 q13 q62) rfl rfl rfl (by decide +kernel) ⟨Nat.le_of_ble_eq_true rfl, Nat.le_of_ble_eq_true rfl⟩) rfl hl.1 rfl (Nat.le_of_ble_eq_true rfl) dX0_clearPattern_11 ⟨Nat.zero_le _, Nat.zero_le _⟩ (fun u_1 H locs hp_1 w => ?_)
  have w : om_H D A s (om_X h d tx mt pt bl ab fl (nI n) (nI 0) (nI 0) (nI 0)) H locs := w
  refine lv_iload_n hx hb dX0_clearPattern_14 rfl (lv_at hl 0 rfl) ?_
  have hI2 : om_I tx mt pt bl ab fl n 0 0 (nI 0) := om_I_new hn (by omega)
  exact om_iret (tx, mt, pt, bl, ab, fl, n, 0, 0, nI 0) C hr hlocks w ⟨hI2, ⟨rfl, rfl, rfl, rfl, rfl⟩⟩ dX0_clearPattern_15
set_option maxHeartbeats 4000000 in
set_option maxRecDepth 100000 in
/-- take -/
theorem mX_take (l : Launch) (D : va_G) (d : ClassId) (h : Nat → Nat) (tx mt pt bl ab fl : Nat → Int32) (n k z : Nat) (cd : Int32) (a b : Int32) (hI : om_I tx mt pt bl ab fl n k z cd) : om_Mi l yX0_take cX0_take 4 (some .int) { frames := 1, cells := 0, slots := 0, locals := 30 } D d [.ref (h 0), .int a, .int b] (om_X h d tx mt pt bl ab fl (nI n) (nI k) (nI z) cd) (fun (r : Int32) (u : om_S) => om_po (fun tx2 pt2 n2 k2 => tx2 = tx ∧ n2 = n ∧ k2 = om_tkk n a.toInt b.toInt k ∧ r = om_tkr n a b ∧ ∀ j, pt2 j = om_tkp n a.toInt b.toInt tx pt j) u) (om_Xu h d) := by
  intro sz
  refine om_enter (by decide) (Nat.le_of_ble_eq_true rfl) ?_
  intro p e s m below meth c ls C hr hlocks w hl
  generalize va_A (om_X h d tx mt pt bl ab fl (nI n) (nI k) (nI z) cd) sz = A at C w ⊢
  have C : om_C p m c cX0_take 4 s _ RX0 D d A := C
  have hx := C.1.1
  have hb := C.1.2.1
  have hl : lv_has ls 4 [(0, .ref (h 0)), (1, .int a), (2, .int b)] := hl
  obtain ⟨hn, hk, hz, hmt, hc⟩ := id hI
  refine lv_iload_n hx hb dX0_take_0 rfl (lv_at hl 2 rfl) ?_
  refine lv_if_lt (tgt := 10) hx hb dX0_take_1 (by decide) (fun c_1 => ?_) (fun c_1 => ?_)
  · refine lv_iconst (v := (-1)) hx hb dX0_take_10 (by decide) ?_
    have et : om_tk n a.toInt b.toInt = 1 := om_tk1 (Or.inl (om_neg c_1))
    have en := om_tk_no (k := k) (T := tx) (P := pt) (show ¬ _ = 0 from by rw [et]; decide)
    have hI2 : om_I tx mt pt bl ab fl n k z cd := hI
    exact om_iret (tx, mt, pt, bl, ab, fl, n, k, z, cd) C hr hlocks w ⟨hI2, ⟨rfl, rfl, en.1.symm, (by unfold om_tkr; rw [et]; rfl), fun j => (en.2 j).symm⟩⟩ dX0_take_11
  · obtain ⟨y, hy, rfl⟩ := nI_of c_1
    refine lv_iload_n hx hb dX0_take_4 rfl (lv_at hl 2 rfl) ?_
    refine lv_bipush (v := nI 10) hx hb dX0_take_5 (by decide) ?_
    refine om_icmp_le (tgt := 12) hx hb dX0_take_7 (by decide) (by omega) (by omega) (fun c_7 => ?_) (fun c_7 => ?_)
    · refine lv_iload_n hx hb dX0_take_12 rfl (lv_at hl 1 rfl) ?_
      refine lv_if_lt (tgt := 26) hx hb dX0_take_13 (by decide) (fun c_13 => ?_) (fun c_13 => ?_)
      · refine lv_bipush (v := (-2)) hx hb dX0_take_26 (by decide) ?_
        have et : om_tk n a.toInt (nI y).toInt = 2 := by rw [nI_toInt hy]; exact om_tk2 (by omega) (by omega) (Or.inl (om_neg c_13))
        have en := om_tk_no (k := k) (T := tx) (P := pt) (show ¬ _ = 0 from by rw [et]; decide)
        have hI2 : om_I tx mt pt bl ab fl n k z cd := hI
        exact om_iret (tx, mt, pt, bl, ab, fl, n, k, z, cd) C hr hlocks w ⟨hI2, ⟨rfl, rfl, en.1.symm, (by unfold om_tkr; rw [et]; rfl), fun j => (en.2 j).symm⟩⟩ dX0_take_28
      · obtain ⟨f, hf, rfl⟩ := nI_of c_13
        refine lv_iload_n hx hb dX0_take_16 rfl (lv_at hl 1 rfl) ?_
        refine lv_aload_n hx hb dX0_take_17 rfl (lv_at hl 0 rfl) ?_
        refine xg_len C w dX0_take_18 ?_
        refine lv_iload_n hx hb dX0_take_21 rfl (lv_at hl 2 rfl) ?_
        refine lv_isub hx hb dX0_take_22 ?_
        refine om_icmp_leD (tgt := 29) (x := f) (a := n) (b := y) hx hb dX0_take_23 (by decide) (by omega) (by omega) (by omega) (fun c_23 => ?_) (fun c_23 => ?_)
        · refine lv_iconst (v := nI 0) hx hb dX0_take_29 (by decide) ?_
          refine lv_istore_n (lv' := [(3, .int (nI 0)), (0, .ref (h 0)), (1, .int (nI f)), (2, .int (nI y))]) hx hb dX0_take_30 rfl hl (by decide) rfl (fun ls hl => ?_)
          refine om_loop2 (α := Nat) (β := (Nat → Int32)) (I := fun i pt2 H locs ls => (i ≤ y) ∧ (∀ j, pt2 j = if j < i then tx (f + j) else pt j) ∧ om_H D A s (om_X h d tx mt pt2 bl ab fl (nI n) (nI k) (nI z) cd) H locs ∧ lv_has ls 4 [(0, .ref (h 0)), (1, .int (nI f)), (2, .int (nI y)), (3, .int (nI i))]) (μ := fun i pt2 => y - i) ?_ 0 pt _ _ _ ⟨Nat.zero_le _, (fun j => (if_neg (by omega)).symm), w, lv_sub hl [1, 2, 3, 0] rfl⟩
          intro i pt2 H locs ls hI ih_31
          obtain ⟨hi, hfi, w, hl⟩ := hI
          refine lv_iload_n hx hb dX0_take_31 rfl (lv_at hl 3 rfl) ?_
          refine lv_iload_n hx hb dX0_take_32 rfl (lv_at hl 2 rfl) ?_
          refine om_icmp_ge (tgt := 56) hx hb dX0_take_33 (by decide) (by omega) (by omega) (fun c_33 => ?_) (fun c_33 => ?_)
          · have hfi : ∀ j, pt2 j = if j < y then tx (f + j) else pt j := by rw [show y = i by omega]; exact hfi
            refine lv_aload_n hx hb dX0_take_56 rfl (lv_at hl 0 rfl) ?_
            refine lv_iload_n hx hb dX0_take_57 rfl (lv_at hl 2 rfl) ?_
            refine xp_siz C w dX0_take_58 (fun H locs w => ?_)
            refine lv_aload_n hx hb dX0_take_61 rfl (lv_at hl 0 rfl) ?_
            refine om_callv (Wr := []) (As := []) (rest := []) C w (mX_changed l D d h tx mt pt2 bl ab fl (nI n) (nI y) (nI z) cd) [0, 1, 2, 3, 4, 5, 6] [] rfl rfl rfl rfl (by decide) rfl rfl (cwV 0 C.1.2.2.2.2 (lw_V q59 q61 qs0 q13 q62) rfl rfl rfl (by decide +kernel) ⟨Nat.le_of_ble_eq_true rfl, Nat.le_of_ble_eq_true rfl⟩) rfl hl.1 rfl (Nat.le_of_ble_eq_true rfl) dX0_take_62 ⟨Nat.zero_le _, Nat.zero_le _⟩ (fun u_2 H locs hp_2 w => ?_)
            have w : om_H D A s (om_X h d tx mt pt2 bl ab fl (nI n) (nI y) (nI 0) (nI 0)) H locs := w
            refine lv_iload_n hx hb dX0_take_65 rfl (lv_at hl 2 rfl) ?_
            have ey := om_tk_yes (k := k) (T := tx) (P := pt) hf c_7 c_23
            have hI2 : om_I tx mt pt2 bl ab fl n y 0 (nI 0) := om_I_new hn c_7
            exact om_iret (tx, mt, pt2, bl, ab, fl, n, y, 0, nI 0) C hr hlocks w ⟨hI2, ⟨rfl, rfl, ey.2.1.symm, ey.1.symm, fun j => (hfi j).trans (ey.2.2 j).symm⟩⟩ dX0_take_66
          · refine lv_aload_n hx hb dX0_take_36 rfl (lv_at hl 0 rfl) ?_
            refine xg_pt C w dX0_take_37 ?_
            refine lv_iload_n hx hb dX0_take_40 rfl (lv_at hl 3 rfl) ?_
            refine lv_aload_n hx hb dX0_take_41 rfl (lv_at hl 0 rfl) ?_
            refine xg_tx C w dX0_take_42 ?_
            refine lv_iload_n hx hb dX0_take_45 rfl (lv_at hl 1 rfl) ?_
            refine lv_iload_n hx hb dX0_take_46 rfl (lv_at hl 3 rfl) ?_
            refine om_iadd hx hb dX0_take_47 ?_
            refine xl_tx C w (i := f + i) (by omega) dX0_take_48 ?_
            refine xs_pt C w (i := i) (by omega) dX0_take_49 (fun H locs w => ?_)
            refine lv_iinc (v := nI (i + 1)) (lv' := [(3, .int (nI (i + 1))), (0, .ref (h 0)), (1, .int (nI f)), (2, .int (nI y))]) hx hb dX0_take_50 hl (k := 3) rfl (nI_add _ 1) (by decide) rfl (fun ls hl => ?_)
            refine lv_goto (tgt := 31) hx hb dX0_take_53 (by decide) ?_
            exact ih_31 (i + 1) (upd pt2 i (tx (f + i))) _ _ _ (by first | omega | (dsimp only; omega)) ⟨by omega, om_fill0 (g := fun j => tx (f + j)) hfi, w, lv_sub hl [1, 2, 3, 0] rfl⟩
        · refine lv_bipush (v := (-2)) hx hb dX0_take_26 (by decide) ?_
          have et : om_tk n (nI f).toInt (nI y).toInt = 2 := by rw [nI_toInt hy, nI_toInt hf]; exact om_tk2 (by omega) (by omega) (by omega)
          have en := om_tk_no (k := k) (T := tx) (P := pt) (show ¬ _ = 0 from by rw [et]; decide)
          have hI2 : om_I tx mt pt bl ab fl n k z cd := hI
          exact om_iret (tx, mt, pt, bl, ab, fl, n, k, z, cd) C hr hlocks w ⟨hI2, ⟨rfl, rfl, en.1.symm, (by unfold om_tkr; rw [et]; rfl), fun j => (en.2 j).symm⟩⟩ dX0_take_28
    · refine lv_iconst (v := (-1)) hx hb dX0_take_10 (by decide) ?_
      have et : om_tk n a.toInt (nI y).toInt = 1 := by rw [nI_toInt hy]; exact om_tk1 (by omega)
      have en := om_tk_no (k := k) (T := tx) (P := pt) (show ¬ _ = 0 from by rw [et]; decide)
      have hI2 : om_I tx mt pt bl ab fl n k z cd := hI
      exact om_iret (tx, mt, pt, bl, ab, fl, n, k, z, cd) C hr hlocks w ⟨hI2, ⟨rfl, rfl, en.1.symm, (by unfold om_tkr; rw [et]; rfl), fun j => (en.2 j).symm⟩⟩ dX0_take_11
set_option maxHeartbeats 4000000 in
set_option maxRecDepth 100000 in
/-- feed -/
theorem mX_feed (l : Launch) (D : va_G) (d : ClassId) (h : Nat → Nat) (tx mt pt bl ab fl : Nat → Int32) (n k z : Nat) (cd : Int32) (v : Int32) (hI : om_I tx mt pt bl ab fl n k z cd) : om_Mi l yX0_feed cX0_feed 2 (some .int) { frames := 0, cells := 0, slots := 0, locals := 0 } D d [.ref (h 0), .int v] (om_X h d tx mt pt bl ab fl (nI n) (nI k) (nI z) cd) (fun (r : Int32) (u : om_S) => om_po (fun tx2 pt2 n2 k2 => pt2 = pt ∧ k2 = k ∧ ((n = 60 ∧ r = -1 ∧ tx2 = tx ∧ n2 = n) ∨ (n < 60 ∧ r = nI (n + 1) ∧ tx2 = upd tx n v ∧ n2 = n + 1))) u) (om_Xu h d) := by
  intro sz
  refine om_enter (by decide) (Nat.le_of_ble_eq_true rfl) ?_
  intro p e s m below meth c ls C hr hlocks w hl
  generalize va_A (om_X h d tx mt pt bl ab fl (nI n) (nI k) (nI z) cd) sz = A at C w ⊢
  have C : om_C p m c cX0_feed 2 s _ RX0 D d A := C
  have hx := C.1.1
  have hb := C.1.2.1
  have hl : lv_has ls 2 [(0, .ref (h 0)), (1, .int v)] := hl
  obtain ⟨hn, hk, hz, hmt, hc⟩ := id hI
  refine lv_aload_n hx hb dX0_feed_0 rfl (lv_at hl 0 rfl) ?_
  refine xg_len C w dX0_feed_1 ?_
  refine lv_bipush (v := nI 60) hx hb dX0_feed_4 (by decide) ?_
  refine om_icmp_ne (tgt := 11) hx hb dX0_feed_6 (by decide) (by omega) (by omega) (fun c_6 => ?_) (fun c_6 => ?_)
  · refine lv_aload_n hx hb dX0_feed_11 rfl (lv_at hl 0 rfl) ?_
    refine xg_tx C w dX0_feed_12 ?_
    refine lv_aload_n hx hb dX0_feed_15 rfl (lv_at hl 0 rfl) ?_
    refine xg_len C w dX0_feed_16 ?_
    refine lv_iload_n hx hb dX0_feed_19 rfl (lv_at hl 1 rfl) ?_
    refine xs_tx C w (i := n) (by omega) dX0_feed_20 (fun H locs w => ?_)
    refine lv_aload_n hx hb dX0_feed_21 rfl (lv_at hl 0 rfl) ?_
    refine lv_dup hx hb dX0_feed_22 rfl ?_
    refine xg_len C w dX0_feed_23 ?_
    refine lv_iconst (v := nI 1) hx hb dX0_feed_26 (by decide) ?_
    refine om_iadd hx hb dX0_feed_27 ?_
    refine xp_len C w dX0_feed_28 (fun H locs w => ?_)
    refine lv_aload_n hx hb dX0_feed_31 rfl (lv_at hl 0 rfl) ?_
    refine xg_len C w dX0_feed_32 ?_
    have hI2 : om_I (upd tx n v) mt pt bl ab fl (n + 1) k z cd := om_I_ext hI (fun j hj => pk_un (by omega)) (by omega) (by omega)
    exact om_iret (upd tx n v, mt, pt, bl, ab, fl, n + 1, k, z, cd) C hr hlocks w ⟨hI2, ⟨rfl, rfl, Or.inr ⟨by omega, rfl, rfl, rfl⟩⟩⟩ dX0_feed_35
  · refine lv_iconst (v := (-1)) hx hb dX0_feed_9 (by decide) ?_
    have hI2 : om_I tx mt pt bl ab fl n k z cd := hI
    exact om_iret (tx, mt, pt, bl, ab, fl, n, k, z, cd) C hr hlocks w ⟨hI2, ⟨rfl, rfl, Or.inl ⟨c_6, rfl, rfl, rfl⟩⟩⟩ dX0_feed_10
set_option maxHeartbeats 4000000 in
set_option maxRecDepth 100000 in
/-- ramp -/
theorem mX_ramp (l : Launch) (D : va_G) (d : ClassId) (h : Nat → Nat) (tx mt pt bl ab fl : Nat → Int32) (n k z : Nat) (cd : Int32) (a b q : Int32) (hI : om_I tx mt pt bl ab fl n k z cd) : om_Mi l yX0_ramp cX0_ramp 5 (some .int) { frames := 0, cells := 0, slots := 0, locals := 0 } D d [.ref (h 0), .int a, .int b, .int q] (om_X h d tx mt pt bl ab fl (nI n) (nI k) (nI z) cd) (fun (r : Int32) (u : om_S) => om_po (fun tx2 pt2 n2 k2 => pt2 = pt ∧ k2 = k ∧ n2 = om_rpn n q.toInt ∧ r = om_rpr n q.toInt ∧ ∀ j, tx2 j = om_rpt n q.toInt a b tx j) u) (om_Xu h d) := by
  intro sz
  refine om_enter (by decide) (Nat.le_of_ble_eq_true rfl) ?_
  intro p e s m below meth c ls C hr hlocks w hl
  generalize va_A (om_X h d tx mt pt bl ab fl (nI n) (nI k) (nI z) cd) sz = A at C w ⊢
  have C : om_C p m c cX0_ramp 5 s _ RX0 D d A := C
  have hx := C.1.1
  have hb := C.1.2.1
  have hl : lv_has ls 5 [(0, .ref (h 0)), (1, .int a), (2, .int b), (3, .int q)] := hl
  obtain ⟨hn, hk, hz, hmt, hc⟩ := id hI
  refine lv_iload_n hx hb dX0_ramp_0 rfl (lv_at hl 3 rfl) ?_
  refine lv_iconst (v := nI 1) hx hb dX0_ramp_1 (by decide) ?_
  refine lv_icmp_lt (tgt := 11) hx hb dX0_ramp_2 (by decide) (fun c_2 => ?_) (fun c_2 => ?_)
  · refine lv_iconst (v := (-1)) hx hb dX0_ramp_11 (by decide) ?_
    have et : om_rp n q.toInt = 1 := om_rp1 (Or.inl (om_lt1 c_2))
    have en := om_rp_no (a := a) (b := b) (T := tx) (show ¬ _ = 0 from by rw [et]; decide)
    have hI2 : om_I tx mt pt bl ab fl n k z cd := hI
    exact om_iret (tx, mt, pt, bl, ab, fl, n, k, z, cd) C hr hlocks w ⟨hI2, ⟨rfl, rfl, en.1.symm, (by unfold om_rpr; rw [et]; rfl), fun j => (en.2 j).symm⟩⟩ dX0_ramp_12
  · obtain ⟨y, hy1, hy, rfl⟩ := om_ge1 c_2
    refine lv_iload_n hx hb dX0_ramp_5 rfl (lv_at hl 3 rfl) ?_
    refine lv_bipush (v := nI 60) hx hb dX0_ramp_6 (by decide) ?_
    refine om_icmp_le (tgt := 13) hx hb dX0_ramp_8 (by decide) (by omega) (by omega) (fun c_8 => ?_) (fun c_8 => ?_)
    · refine lv_aload_n hx hb dX0_ramp_13 rfl (lv_at hl 0 rfl) ?_
      refine xg_len C w dX0_ramp_14 ?_
      refine lv_iload_n hx hb dX0_ramp_17 rfl (lv_at hl 3 rfl) ?_
      refine om_iadd hx hb dX0_ramp_18 ?_
      refine lv_bipush (v := nI 60) hx hb dX0_ramp_19 (by decide) ?_
      refine om_icmp_le (tgt := 27) hx hb dX0_ramp_21 (by decide) (by omega) (by omega) (fun c_21 => ?_) (fun c_21 => ?_)
      · refine lv_iconst (v := nI 0) hx hb dX0_ramp_27 (by decide) ?_
        refine lv_istore (lv' := [(4, .int (nI 0)), (0, .ref (h 0)), (1, .int a), (2, .int b), (3, .int (nI y))]) hx hb dX0_ramp_28 hl (by decide) rfl (fun ls hl => ?_)
        refine om_loop2 (α := Nat) (β := (Nat → Int32)) (I := fun i tx2 H locs ls => (i ≤ y) ∧ (∀ j, tx2 j = if n ≤ j ∧ j < n + i then a + nI (j - n) * b else tx j) ∧ om_H D A s (om_X h d tx2 mt pt bl ab fl (nI n) (nI k) (nI z) cd) H locs ∧ lv_has ls 5 [(0, .ref (h 0)), (1, .int a), (2, .int b), (3, .int (nI y)), (4, .int (nI i))]) (μ := fun i tx2 => y - i) ?_ 0 tx _ _ _ ⟨Nat.zero_le _, (fun j => (if_neg (by omega)).symm), w, lv_sub hl [1, 2, 3, 4, 0] rfl⟩
        intro i tx2 H locs ls hI ih_30
        obtain ⟨hi, hfi, w, hl⟩ := hI
        refine lv_iload hx hb dX0_ramp_30 (lv_at hl 4 rfl) ?_
        refine lv_iload_n hx hb dX0_ramp_32 rfl (lv_at hl 3 rfl) ?_
        refine om_icmp_ge (tgt := 60) hx hb dX0_ramp_33 (by decide) (by omega) (by omega) (fun c_33 => ?_) (fun c_33 => ?_)
        · have hfi : ∀ j, tx2 j = if n ≤ j ∧ j < n + y then a + nI (j - n) * b else tx j := by rw [show y = i by omega]; exact hfi
          refine lv_aload_n hx hb dX0_ramp_60 rfl (lv_at hl 0 rfl) ?_
          refine lv_dup hx hb dX0_ramp_61 rfl ?_
          refine xg_len C w dX0_ramp_62 ?_
          refine lv_iload_n hx hb dX0_ramp_65 rfl (lv_at hl 3 rfl) ?_
          refine om_iadd hx hb dX0_ramp_66 ?_
          refine xp_len C w dX0_ramp_67 (fun H locs w => ?_)
          refine lv_aload_n hx hb dX0_ramp_70 rfl (lv_at hl 0 rfl) ?_
          refine xg_len C w dX0_ramp_71 ?_
          have ey := om_rp_yes (a := a) (b := b) (T := tx) hy1 c_21
          have hI2 : om_I tx2 mt pt bl ab fl (n + y) k z cd := om_I_ext hI (fun j hj => (hfi j).trans (if_neg (by omega))) (by omega) (by omega)
          exact om_iret (tx2, mt, pt, bl, ab, fl, n + y, k, z, cd) C hr hlocks w ⟨hI2, ⟨rfl, rfl, ey.2.1.symm, ey.1.symm, fun j => (hfi j).trans (ey.2.2 j).symm⟩⟩ dX0_ramp_74
        · refine lv_aload_n hx hb dX0_ramp_36 rfl (lv_at hl 0 rfl) ?_
          refine xg_tx C w dX0_ramp_37 ?_
          refine lv_aload_n hx hb dX0_ramp_40 rfl (lv_at hl 0 rfl) ?_
          refine xg_len C w dX0_ramp_41 ?_
          refine lv_iload hx hb dX0_ramp_44 (lv_at hl 4 rfl) ?_
          refine om_iadd hx hb dX0_ramp_46 ?_
          refine lv_iload_n hx hb dX0_ramp_47 rfl (lv_at hl 1 rfl) ?_
          refine lv_iload hx hb dX0_ramp_48 (lv_at hl 4 rfl) ?_
          refine lv_iload_n hx hb dX0_ramp_50 rfl (lv_at hl 2 rfl) ?_
          refine lv_imul hx hb dX0_ramp_51 ?_
          refine lv_iadd hx hb dX0_ramp_52 ?_
          refine xs_tx C w (i := n + i) (by omega) dX0_ramp_53 (fun H locs w => ?_)
          refine lv_iinc (v := nI (i + 1)) (lv' := [(4, .int (nI (i + 1))), (0, .ref (h 0)), (1, .int a), (2, .int b), (3, .int (nI y))]) hx hb dX0_ramp_54 hl (k := 4) rfl (nI_add _ 1) (by decide) rfl (fun ls hl => ?_)
          refine lv_goto (tgt := 30) hx hb dX0_ramp_57 (by decide) ?_
          exact ih_30 (i + 1) (upd tx2 (n + i) (a + ((nI i) * b))) _ _ _ (by first | omega | (dsimp only; omega)) ⟨by omega, om_fill (g := fun j => a + nI j * b) hfi, w, lv_sub hl [1, 2, 3, 4, 0] rfl⟩
      · refine lv_bipush (v := (-2)) hx hb dX0_ramp_24 (by decide) ?_
        have et : om_rp n (nI y).toInt = 2 := by rw [nI_toInt hy]; exact om_rp2 (by omega) (by omega) (by omega)
        have en := om_rp_no (a := a) (b := b) (T := tx) (show ¬ _ = 0 from by rw [et]; decide)
        have hI2 : om_I tx mt pt bl ab fl n k z cd := hI
        exact om_iret (tx, mt, pt, bl, ab, fl, n, k, z, cd) C hr hlocks w ⟨hI2, ⟨rfl, rfl, en.1.symm, (by unfold om_rpr; rw [et]; rfl), fun j => (en.2 j).symm⟩⟩ dX0_ramp_26
    · refine lv_iconst (v := (-1)) hx hb dX0_ramp_11 (by decide) ?_
      have et : om_rp n (nI y).toInt = 1 := by rw [nI_toInt hy]; exact om_rp1 (by omega)
      have en := om_rp_no (a := a) (b := b) (T := tx) (show ¬ _ = 0 from by rw [et]; decide)
      have hI2 : om_I tx mt pt bl ab fl n k z cd := hI
      exact om_iret (tx, mt, pt, bl, ab, fl, n, k, z, cd) C hr hlocks w ⟨hI2, ⟨rfl, rfl, en.1.symm, (by unfold om_rpr; rw [et]; rfl), fun j => (en.2 j).symm⟩⟩ dX0_ramp_12
set_option maxHeartbeats 4000000 in
set_option maxRecDepth 100000 in
/-- echo -/
theorem mX_echo (l : Launch) (D : va_G) (d : ClassId) (h : Nat → Nat) (tx mt pt bl ab fl : Nat → Int32) (n k z : Nat) (cd : Int32) (q b a : Int32) (hI : om_I tx mt pt bl ab fl n k z cd) : om_Mi l yX0_echo cX0_echo 7 (some .int) { frames := 0, cells := 0, slots := 0, locals := 0 } D d [.ref (h 0), .int q, .int b, .int a] (om_X h d tx mt pt bl ab fl (nI n) (nI k) (nI z) cd) (fun (r : Int32) (u : om_S) => om_po (fun tx2 pt2 n2 k2 => pt2 = pt ∧ k2 = k ∧ n2 = om_ecn n q.toInt ∧ r = om_ecr n q.toInt ∧ ∀ j, tx2 j = om_ect n q.toInt b a tx j) u) (om_Xu h d) := by
  intro sz
  refine om_enter (by decide) (Nat.le_of_ble_eq_true rfl) ?_
  intro p e s m below meth c ls C hr hlocks w hl
  generalize va_A (om_X h d tx mt pt bl ab fl (nI n) (nI k) (nI z) cd) sz = A at C w ⊢
  have C : om_C p m c cX0_echo 7 s _ RX0 D d A := C
  have hx := C.1.1
  have hb := C.1.2.1
  have hl : lv_has ls 7 [(0, .ref (h 0)), (1, .int q), (2, .int b), (3, .int a)] := hl
  obtain ⟨hn, hk, hz, hmt, hc⟩ := id hI
  by_cases hq : q < 0
  · refine lv_iload_n hx hb dX0_echo_0 rfl (lv_at hl 1 rfl) ?_
    refine lv_bipush (v := nI 6) hx hb dX0_echo_1 (by decide) ?_
    refine lv_ishr hx hb dX0_echo_3 ?_
    refine lv_istore (lv' := [(4, .int (q >>> (nI 6 &&& 31))), (0, .ref (h 0)), (1, .int q), (2, .int b), (3, .int a)]) hx hb dX0_echo_4 hl (by decide) rfl (fun ls hl => ?_)
    refine lv_iload_n hx hb dX0_echo_6 rfl (lv_at hl 2 rfl) ?_
    refine lv_bipush (v := nI 63) hx hb dX0_echo_7 (by decide) ?_
    refine lv_iand hx hb dX0_echo_9 ?_
    refine lv_istore (lv' := [(5, .int (q &&& nI 63)), (4, .int (q >>> (nI 6 &&& 31))), (0, .ref (h 0)), (1, .int q), (2, .int b), (3, .int a)]) hx hb dX0_echo_10 hl (by decide) rfl (fun ls hl => ?_)
    refine lv_iload hx hb dX0_echo_12 (lv_at hl 1 rfl) ?_
    refine lv_iconst (v := nI 1) hx hb dX0_echo_14 (by decide) ?_
    refine lv_icmp_lt (tgt := 25) hx hb dX0_echo_15 (by decide) (fun c_15 => ?_) (fun c_15 => ?_)
    · refine lv_iconst (v := (-1)) hx hb dX0_echo_25 (by decide) ?_
      have et : om_ec n q.toInt = 1 := om_ec1 (Or.inl (om_neg hq))
      have en := om_ec_no (a := a) (b := b) (T := tx) (show ¬ _ = 0 from by rw [et]; decide)
      have hI2 : om_I tx mt pt bl ab fl n k z cd := hI
      exact om_iret (tx, mt, pt, bl, ab, fl, n, k, z, cd) C hr hlocks w ⟨hI2, ⟨rfl, rfl, en.1.symm, (by unfold om_ecr; rw [et]; rfl), fun j => (en.2 j).symm⟩⟩ dX0_echo_26
    · exact absurd (om_shr_neg hq) c_15
  · obtain ⟨y, hy, rfl⟩ := nI_of hq
    refine lv_iload_n hx hb dX0_echo_0 rfl (lv_at hl 1 rfl) ?_
    refine lv_bipush (v := nI 6) hx hb dX0_echo_1 (by decide) ?_
    refine lv_ishr hx hb dX0_echo_3 ?_
    refine lv_topi (fun y_ ey_ => ?_)
    have ey_ : y_ = nI (y / 64) := ey_.trans (om_shr6 hy)
    subst ey_
    refine lv_istore (lv' := [(4, .int (nI (y / 64))), (0, .ref (h 0)), (1, .int (nI y)), (2, .int b), (3, .int a)]) hx hb dX0_echo_4 hl (by decide) rfl (fun ls hl => ?_)
    refine lv_iload_n hx hb dX0_echo_6 rfl (lv_at hl 2 rfl) ?_
    refine lv_bipush (v := nI 63) hx hb dX0_echo_7 (by decide) ?_
    refine lv_iand hx hb dX0_echo_9 ?_
    refine lv_topi (fun y_ ey_ => ?_)
    have ey_ : y_ = nI (y % 64) := ey_.trans (om_and63 hy)
    subst ey_
    refine lv_istore (lv' := [(5, .int (nI (y % 64))), (4, .int (nI (y / 64))), (0, .ref (h 0)), (1, .int (nI y)), (2, .int b), (3, .int a)]) hx hb dX0_echo_10 hl (by decide) rfl (fun ls hl => ?_)
    refine lv_iload hx hb dX0_echo_12 (lv_at hl 1 rfl) ?_
    refine lv_iconst (v := nI 1) hx hb dX0_echo_14 (by decide) ?_
    refine om_icmp_lt (tgt := 25) hx hb dX0_echo_15 (by decide) (by omega) (by omega) (fun c_15 => ?_) (fun c_15 => ?_)
    · refine lv_iconst (v := (-1)) hx hb dX0_echo_25 (by decide) ?_
      have et : om_ec n (nI y).toInt = 1 := by rw [nI_toInt hy]; exact om_ec1 (by simp only [Int.toNat_natCast]; omega)
      have en := om_ec_no (a := a) (b := b) (T := tx) (show ¬ _ = 0 from by rw [et]; decide)
      have hI2 : om_I tx mt pt bl ab fl n k z cd := hI
      exact om_iret (tx, mt, pt, bl, ab, fl, n, k, z, cd) C hr hlocks w ⟨hI2, ⟨rfl, rfl, en.1.symm, (by unfold om_ecr; rw [et]; rfl), fun j => (en.2 j).symm⟩⟩ dX0_echo_26
    · refine lv_iload hx hb dX0_echo_18 (lv_at hl 1 rfl) ?_
      refine lv_bipush (v := nI 20) hx hb dX0_echo_20 (by decide) ?_
      refine om_icmp_le (tgt := 27) hx hb dX0_echo_22 (by decide) (by omega) (by omega) (fun c_22 => ?_) (fun c_22 => ?_)
      · refine lv_iload hx hb dX0_echo_27 (lv_at hl 0 rfl) ?_
        refine lv_aload_n hx hb dX0_echo_29 rfl (lv_at hl 2 rfl) ?_
        refine xg_len C w dX0_echo_30 ?_
        refine lv_iload hx hb dX0_echo_33 (lv_at hl 1 rfl) ?_
        refine lv_isub hx hb dX0_echo_35 ?_
        refine om_icmp_leD (tgt := 42) (x := y % 64) (a := n) (b := y / 64) hx hb dX0_echo_36 (by decide) (by omega) (by omega) (by omega) (fun c_36 => ?_) (fun c_36 => ?_)
        · refine lv_aload_n hx hb dX0_echo_42 rfl (lv_at hl 2 rfl) ?_
          refine xg_len C w dX0_echo_43 ?_
          refine lv_iload hx hb dX0_echo_46 (lv_at hl 1 rfl) ?_
          refine om_iadd hx hb dX0_echo_48 ?_
          refine lv_bipush (v := nI 60) hx hb dX0_echo_49 (by decide) ?_
          refine om_icmp_le (tgt := 57) hx hb dX0_echo_51 (by decide) (by omega) (by omega) (fun c_51 => ?_) (fun c_51 => ?_)
          · refine lv_iconst (v := nI 0) hx hb dX0_echo_57 (by decide) ?_
            refine lv_istore (lv' := [(6, .int (nI 0)), (5, .int (nI (y % 64))), (4, .int (nI (y / 64))), (0, .ref (h 0)), (1, .int (nI y)), (2, .int b), (3, .int a)]) hx hb dX0_echo_58 hl (by decide) rfl (fun ls hl => ?_)
            refine om_loop2 (α := Nat) (β := (Nat → Int32)) (I := fun i tx2 H locs ls => (i ≤ y / 64) ∧ (∀ j, tx2 j = if n ≤ j ∧ j < n + i then tx (y % 64 + (j - n)) * b + a else tx j) ∧ om_H D A s (om_X h d tx2 mt pt bl ab fl (nI n) (nI k) (nI z) cd) H locs ∧ lv_has ls 7 [(0, .ref (h 0)), (2, .int b), (3, .int a), (4, .int (nI (y / 64))), (5, .int (nI (y % 64))), (6, .int (nI i))]) (μ := fun i tx2 => y / 64 - i) ?_ 0 tx _ _ _ ⟨Nat.zero_le _, (fun j => (if_neg (by omega)).symm), w, lv_sub hl [3, 5, 6, 2, 1, 0] rfl⟩
            intro i tx2 H locs ls hI ih_60
            obtain ⟨hi, hfi, w, hl⟩ := hI
            refine lv_iload hx hb dX0_echo_60 (lv_at hl 5 rfl) ?_
            refine lv_iload hx hb dX0_echo_62 (lv_at hl 3 rfl) ?_
            refine om_icmp_ge (tgt := 99) hx hb dX0_echo_64 (by decide) (by omega) (by omega) (fun c_64 => ?_) (fun c_64 => ?_)
            · have hfi : ∀ j, tx2 j = if n ≤ j ∧ j < n + y / 64 then tx (y % 64 + (j - n)) * b + a else tx j := by rw [show y / 64 = i by omega]; exact hfi
              refine lv_aload_n hx hb dX0_echo_99 rfl (lv_at hl 0 rfl) ?_
              refine lv_dup hx hb dX0_echo_100 rfl ?_
              refine xg_len C w dX0_echo_101 ?_
              refine lv_iload hx hb dX0_echo_104 (lv_at hl 3 rfl) ?_
              refine om_iadd hx hb dX0_echo_106 ?_
              refine xp_len C w dX0_echo_107 (fun H locs w => ?_)
              refine lv_aload_n hx hb dX0_echo_110 rfl (lv_at hl 0 rfl) ?_
              refine xg_len C w dX0_echo_111 ?_
              have ey := om_ec_yes (a := a) (b := b) (T := tx) hy c_15 c_22 c_36 c_51
              have hI2 : om_I tx2 mt pt bl ab fl (n + (y / 64)) k z cd := om_I_ext hI (fun j hj => (hfi j).trans (if_neg (by omega))) (by omega) (by omega)
              exact om_iret (tx2, mt, pt, bl, ab, fl, n + (y / 64), k, z, cd) C hr hlocks w ⟨hI2, ⟨rfl, rfl, ey.2.1.symm, ey.1.symm, fun j => (hfi j).trans (ey.2.2 j).symm⟩⟩ dX0_echo_114
            · refine lv_aload_n hx hb dX0_echo_67 rfl (lv_at hl 0 rfl) ?_
              refine xg_tx C w dX0_echo_68 ?_
              refine lv_aload_n hx hb dX0_echo_71 rfl (lv_at hl 0 rfl) ?_
              refine xg_len C w dX0_echo_72 ?_
              refine lv_iload hx hb dX0_echo_75 (lv_at hl 5 rfl) ?_
              refine om_iadd hx hb dX0_echo_77 ?_
              refine lv_aload_n hx hb dX0_echo_78 rfl (lv_at hl 0 rfl) ?_
              refine xg_tx C w dX0_echo_79 ?_
              refine lv_iload hx hb dX0_echo_82 (lv_at hl 4 rfl) ?_
              refine lv_iload hx hb dX0_echo_84 (lv_at hl 5 rfl) ?_
              refine om_iadd hx hb dX0_echo_86 ?_
              refine xl_tx C w (i := y % 64 + i) (by omega) dX0_echo_87 ?_
              refine lv_iload_n hx hb dX0_echo_88 rfl (lv_at hl 1 rfl) ?_
              refine lv_imul hx hb dX0_echo_89 ?_
              refine lv_iload_n hx hb dX0_echo_90 rfl (lv_at hl 2 rfl) ?_
              refine lv_iadd hx hb dX0_echo_91 ?_
              refine xs_tx C w (i := n + i) (by omega) dX0_echo_92 (fun H locs w => ?_)
              refine lv_iinc (v := nI (i + 1)) (lv' := [(6, .int (nI (i + 1))), (0, .ref (h 0)), (2, .int b), (3, .int a), (4, .int (nI (y / 64))), (5, .int (nI (y % 64)))]) hx hb dX0_echo_93 hl (k := 5) rfl (nI_add _ 1) (by decide) rfl (fun ls hl => ?_)
              refine lv_goto (tgt := 60) hx hb dX0_echo_96 (by decide) ?_
              exact ih_60 (i + 1) (upd tx2 (n + i) (((tx2 (y % 64 + i)) * b) + a)) _ _ _ (by first | omega | (dsimp only; omega)) ⟨by omega, (by have := om_fill (g := fun j => tx (y % 64 + j) * b + a) hfi; rw [hfi (y % 64 + i), if_neg (by omega)]; exact this), w, lv_sub hl [1, 2, 3, 4, 5, 0] rfl⟩
          · refine lv_bipush (v := (-3)) hx hb dX0_echo_54 (by decide) ?_
            have et : om_ec n (nI y).toInt = 3 := om_ec3 c_15 c_22 c_36 c_51 hy
            have en := om_ec_no (a := a) (b := b) (T := tx) (show ¬ _ = 0 from by rw [et]; decide)
            have hI2 : om_I tx mt pt bl ab fl n k z cd := hI
            exact om_iret (tx, mt, pt, bl, ab, fl, n, k, z, cd) C hr hlocks w ⟨hI2, ⟨rfl, rfl, en.1.symm, (by unfold om_ecr; rw [et]; rfl), fun j => (en.2 j).symm⟩⟩ dX0_echo_56
        · refine lv_bipush (v := (-2)) hx hb dX0_echo_39 (by decide) ?_
          have et : om_ec n (nI y).toInt = 2 := om_ec2 c_15 c_22 c_36 hy
          have en := om_ec_no (a := a) (b := b) (T := tx) (show ¬ _ = 0 from by rw [et]; decide)
          have hI2 : om_I tx mt pt bl ab fl n k z cd := hI
          exact om_iret (tx, mt, pt, bl, ab, fl, n, k, z, cd) C hr hlocks w ⟨hI2, ⟨rfl, rfl, en.1.symm, (by unfold om_ecr; rw [et]; rfl), fun j => (en.2 j).symm⟩⟩ dX0_echo_41
      · refine lv_iconst (v := (-1)) hx hb dX0_echo_25 (by decide) ?_
        have et : om_ec n (nI y).toInt = 1 := by rw [nI_toInt hy]; exact om_ec1 (by simp only [Int.toNat_natCast]; omega)
        have en := om_ec_no (a := a) (b := b) (T := tx) (show ¬ _ = 0 from by rw [et]; decide)
        have hI2 : om_I tx mt pt bl ab fl n k z cd := hI
        exact om_iret (tx, mt, pt, bl, ab, fl, n, k, z, cd) C hr hlocks w ⟨hI2, ⟨rfl, rfl, en.1.symm, (by unfold om_ecr; rw [et]; rfl), fun j => (en.2 j).symm⟩⟩ dX0_echo_26
set_option maxHeartbeats 4000000 in
set_option maxRecDepth 100000 in
/-- undo -/
theorem mX_undo (l : Launch) (D : va_G) (d : ClassId) (h : Nat → Nat) (tx mt pt bl ab fl : Nat → Int32) (n k z : Nat) (cd : Int32) (q : Int32) (hI : om_I tx mt pt bl ab fl n k z cd) : om_Mi l yX0_undo cX0_undo 2 (some .int) { frames := 0, cells := 0, slots := 0, locals := 0 } D d [.ref (h 0), .int q] (om_X h d tx mt pt bl ab fl (nI n) (nI k) (nI z) cd) (fun (r : Int32) (u : om_S) => om_po (fun tx2 pt2 n2 k2 => tx2 = tx ∧ pt2 = pt ∧ k2 = k ∧ n2 = om_un n q.toInt ∧ r = om_unr n q.toInt) u) (om_Xu h d) := by
  intro sz
  refine om_enter (by decide) (Nat.le_of_ble_eq_true rfl) ?_
  intro p e s m below meth c ls C hr hlocks w hl
  generalize va_A (om_X h d tx mt pt bl ab fl (nI n) (nI k) (nI z) cd) sz = A at C w ⊢
  have C : om_C p m c cX0_undo 2 s _ RX0 D d A := C
  have hx := C.1.1
  have hb := C.1.2.1
  have hl : lv_has ls 2 [(0, .ref (h 0)), (1, .int q)] := hl
  obtain ⟨hn, hk, hz, hmt, hc⟩ := id hI
  refine lv_iload_n hx hb dX0_undo_0 rfl (lv_at hl 1 rfl) ?_
  refine lv_if_lt (tgt := 12) hx hb dX0_undo_1 (by decide) (fun c_1 => ?_) (fun c_1 => ?_)
  · refine lv_iconst (v := (-1)) hx hb dX0_undo_12 (by decide) ?_
    have en : om_un n q.toInt = n ∧ om_unr n q.toInt = -1 := om_un_no (Or.inl (om_neg c_1))
    have hI2 : om_I tx mt pt bl ab fl n k z cd := hI
    exact om_iret (tx, mt, pt, bl, ab, fl, n, k, z, cd) C hr hlocks w ⟨hI2, ⟨rfl, rfl, rfl, en.1.symm, en.2.symm⟩⟩ dX0_undo_13
  · obtain ⟨y, hy, rfl⟩ := nI_of c_1
    refine lv_iload_n hx hb dX0_undo_4 rfl (lv_at hl 1 rfl) ?_
    refine lv_aload_n hx hb dX0_undo_5 rfl (lv_at hl 0 rfl) ?_
    refine xg_len C w dX0_undo_6 ?_
    refine om_icmp_le (tgt := 14) hx hb dX0_undo_9 (by decide) (by omega) (by omega) (fun c_9 => ?_) (fun c_9 => ?_)
    · refine lv_aload_n hx hb dX0_undo_14 rfl (lv_at hl 0 rfl) ?_
      refine lv_dup hx hb dX0_undo_15 rfl ?_
      refine xg_len C w dX0_undo_16 ?_
      refine lv_iload_n hx hb dX0_undo_19 rfl (lv_at hl 1 rfl) ?_
      refine om_isub hx hb (by omega) dX0_undo_20 ?_
      refine xp_len C w dX0_undo_21 (fun H locs w => ?_)
      refine lv_aload_n hx hb dX0_undo_24 rfl (lv_at hl 0 rfl) ?_
      refine lv_aload_n hx hb dX0_undo_25 rfl (lv_at hl 0 rfl) ?_
      refine xg_kn C w dX0_undo_26 ?_
      refine lv_aload_n hx hb dX0_undo_29 rfl (lv_at hl 0 rfl) ?_
      refine xg_len C w dX0_undo_30 ?_
      refine om_icmp_le (tgt := 43) hx hb dX0_undo_33 (by decide) (by omega) (by omega) (fun c_33 => ?_) (fun c_33 => ?_)
      · refine lv_aload_n hx hb dX0_undo_43 rfl (lv_at hl 0 rfl) ?_
        refine xg_kn C w dX0_undo_44 ?_
        refine xp_kn C w dX0_undo_47 (fun H locs w => ?_)
        refine lv_aload_n hx hb dX0_undo_50 rfl (lv_at hl 0 rfl) ?_
        refine xg_len C w dX0_undo_51 ?_
        have ey := om_un_yes hy c_9
        have hI2 : om_I tx mt pt bl ab fl (n - y) k z cd := om_I_cut hI (by omega) (by omega) (by omega)
        exact om_iret (tx, mt, pt, bl, ab, fl, n - y, k, z, cd) C hr hlocks w ⟨hI2, ⟨rfl, rfl, rfl, ey.1.symm, ey.2.symm⟩⟩ dX0_undo_54
      · refine lv_aload_n hx hb dX0_undo_36 rfl (lv_at hl 0 rfl) ?_
        refine xg_len C w dX0_undo_37 ?_
        refine lv_goto (tgt := 47) hx hb dX0_undo_40 (by decide) ?_
        refine xp_kn C w dX0_undo_47 (fun H locs w => ?_)
        refine lv_aload_n hx hb dX0_undo_50 rfl (lv_at hl 0 rfl) ?_
        refine xg_len C w dX0_undo_51 ?_
        have ey := om_un_yes hy c_9
        have hI2 : om_I tx mt pt bl ab fl (n - y) k (n - y) cd := om_I_cut hI (by omega) (by omega) (by omega)
        exact om_iret (tx, mt, pt, bl, ab, fl, n - y, k, n - y, cd) C hr hlocks w ⟨hI2, ⟨rfl, rfl, rfl, ey.1.symm, ey.2.symm⟩⟩ dX0_undo_54
    · refine lv_iconst (v := (-1)) hx hb dX0_undo_12 (by decide) ?_
      have en : om_un n (nI y).toInt = n ∧ om_unr n (nI y).toInt = -1 := om_un_no (Or.inr (by rw [nI_toInt hy]; omega))
      have hI2 : om_I tx mt pt bl ab fl n k z cd := hI
      exact om_iret (tx, mt, pt, bl, ab, fl, n, k, z, cd) C hr hlocks w ⟨hI2, ⟨rfl, rfl, rfl, en.1.symm, en.2.symm⟩⟩ dX0_undo_13
set_option maxHeartbeats 4000000 in
set_option maxRecDepth 100000 in
/-- length -/
theorem mX_length (l : Launch) (D : va_G) (d : ClassId) (h : Nat → Nat) (tx mt pt bl ab fl : Nat → Int32) (n k z : Nat) (cd : Int32) (hI : om_I tx mt pt bl ab fl n k z cd) : om_Mi l yX0_length cX0_length 1 (some .int) { frames := 0, cells := 0, slots := 0, locals := 0 } D d [.ref (h 0)] (om_X h d tx mt pt bl ab fl (nI n) (nI k) (nI z) cd) (fun (r : Int32) (u : om_S) => om_po (fun tx2 pt2 n2 k2 => tx2 = tx ∧ pt2 = pt ∧ n2 = n ∧ k2 = k ∧ r = nI n) u) (om_Xu h d) := by
  intro sz
  refine om_enter (by decide) (Nat.le_of_ble_eq_true rfl) ?_
  intro p e s m below meth c ls C hr hlocks w hl
  generalize va_A (om_X h d tx mt pt bl ab fl (nI n) (nI k) (nI z) cd) sz = A at C w ⊢
  have C : om_C p m c cX0_length 1 s _ RX0 D d A := C
  have hx := C.1.1
  have hb := C.1.2.1
  have hl : lv_has ls 1 [(0, .ref (h 0))] := hl
  obtain ⟨hn, hk, hz, hmt, hc⟩ := id hI
  refine lv_aload_n hx hb dX0_length_0 rfl (lv_at hl 0 rfl) ?_
  refine xg_len C w dX0_length_1 ?_
  have hI2 : om_I tx mt pt bl ab fl n k z cd := hI
  exact om_iret (tx, mt, pt, bl, ab, fl, n, k, z, cd) C hr hlocks w ⟨hI2, ⟨rfl, rfl, rfl, rfl, rfl⟩⟩ dX0_length_4
set_option maxHeartbeats 4000000 in
set_option maxRecDepth 100000 in
/-- patternLength -/
theorem mX_patternLength (l : Launch) (D : va_G) (d : ClassId) (h : Nat → Nat) (tx mt pt bl ab fl : Nat → Int32) (n k z : Nat) (cd : Int32) (hI : om_I tx mt pt bl ab fl n k z cd) : om_Mi l yX0_patternLength cX0_patternLength 1 (some .int) { frames := 0, cells := 0, slots := 0, locals := 0 } D d [.ref (h 0)] (om_X h d tx mt pt bl ab fl (nI n) (nI k) (nI z) cd) (fun (r : Int32) (u : om_S) => om_po (fun tx2 pt2 n2 k2 => tx2 = tx ∧ pt2 = pt ∧ n2 = n ∧ k2 = k ∧ r = nI k) u) (om_Xu h d) := by
  intro sz
  refine om_enter (by decide) (Nat.le_of_ble_eq_true rfl) ?_
  intro p e s m below meth c ls C hr hlocks w hl
  generalize va_A (om_X h d tx mt pt bl ab fl (nI n) (nI k) (nI z) cd) sz = A at C w ⊢
  have C : om_C p m c cX0_patternLength 1 s _ RX0 D d A := C
  have hx := C.1.1
  have hb := C.1.2.1
  have hl : lv_has ls 1 [(0, .ref (h 0))] := hl
  obtain ⟨hn, hk, hz, hmt, hc⟩ := id hI
  refine lv_aload_n hx hb dX0_patternLength_0 rfl (lv_at hl 0 rfl) ?_
  refine xg_siz C w dX0_patternLength_1 ?_
  have hI2 : om_I tx mt pt bl ab fl n k z cd := hI
  exact om_iret (tx, mt, pt, bl, ab, fl, n, k, z, cd) C hr hlocks w ⟨hI2, ⟨rfl, rfl, rfl, rfl, rfl⟩⟩ dX0_patternLength_4
set_option maxHeartbeats 4000000 in
set_option maxRecDepth 100000 in
/-- valueAt -/
theorem mX_valueAt (l : Launch) (D : va_G) (d : ClassId) (h : Nat → Nat) (tx mt pt bl ab fl : Nat → Int32) (n k z : Nat) (cd : Int32) (q : Int32) (hI : om_I tx mt pt bl ab fl n k z cd) : om_Mi l yX0_valueAt cX0_valueAt 2 (some .int) { frames := 0, cells := 0, slots := 0, locals := 0 } D d [.ref (h 0), .int q] (om_X h d tx mt pt bl ab fl (nI n) (nI k) (nI z) cd) (fun (r : Int32) (u : om_S) => om_po (fun tx2 pt2 n2 k2 => tx2 = tx ∧ pt2 = pt ∧ n2 = n ∧ k2 = k ∧ r = om_rng 0 ((n : Int) - 1) q.toInt (nI 0) tx) u) (om_Xu h d) := by
  intro sz
  refine om_enter (by decide) (Nat.le_of_ble_eq_true rfl) ?_
  intro p e s m below meth c ls C hr hlocks w hl
  generalize va_A (om_X h d tx mt pt bl ab fl (nI n) (nI k) (nI z) cd) sz = A at C w ⊢
  have C : om_C p m c cX0_valueAt 2 s _ RX0 D d A := C
  have hx := C.1.1
  have hb := C.1.2.1
  have hl : lv_has ls 2 [(0, .ref (h 0)), (1, .int q)] := hl
  obtain ⟨hn, hk, hz, hmt, hc⟩ := id hI
  refine lv_iload_n hx hb dX0_valueAt_0 rfl (lv_at hl 1 rfl) ?_
  refine lv_if_lt (tgt := 21) hx hb dX0_valueAt_1 (by decide) (fun c_1 => ?_) (fun c_1 => ?_)
  · refine lv_iconst (v := nI 0) hx hb dX0_valueAt_21 (by decide) ?_
    have hI2 : om_I tx mt pt bl ab fl n k z cd := hI
    exact om_iret (tx, mt, pt, bl, ab, fl, n, k, z, cd) C hr hlocks w ⟨hI2, ⟨rfl, rfl, rfl, rfl, om_rng_b (Or.inl (om_neg c_1))⟩⟩ dX0_valueAt_22
  · obtain ⟨y, hy, rfl⟩ := nI_of c_1
    refine lv_iload_n hx hb dX0_valueAt_4 rfl (lv_at hl 1 rfl) ?_
    refine lv_aload_n hx hb dX0_valueAt_5 rfl (lv_at hl 0 rfl) ?_
    refine xg_len C w dX0_valueAt_6 ?_
    refine om_icmp_ge (tgt := 21) hx hb dX0_valueAt_9 (by decide) (by omega) (by omega) (fun c_9 => ?_) (fun c_9 => ?_)
    · refine lv_iconst (v := nI 0) hx hb dX0_valueAt_21 (by decide) ?_
      have hI2 : om_I tx mt pt bl ab fl n k z cd := hI
      exact om_iret (tx, mt, pt, bl, ab, fl, n, k, z, cd) C hr hlocks w ⟨hI2, ⟨rfl, rfl, rfl, rfl, om_rng_h hy (by omega)⟩⟩ dX0_valueAt_22
    · refine lv_aload_n hx hb dX0_valueAt_12 rfl (lv_at hl 0 rfl) ?_
      refine xg_tx C w dX0_valueAt_13 ?_
      refine lv_iload_n hx hb dX0_valueAt_16 rfl (lv_at hl 1 rfl) ?_
      refine xl_tx C w (i := y) (by omega) dX0_valueAt_17 ?_
      refine lv_goto (tgt := 22) hx hb dX0_valueAt_18 (by decide) ?_
      have hI2 : om_I tx mt pt bl ab fl n k z cd := hI
      exact om_iret (tx, mt, pt, bl, ab, fl, n, k, z, cd) C hr hlocks w ⟨hI2, ⟨rfl, rfl, rfl, rfl, om_rng_g hy (by omega) (by omega)⟩⟩ dX0_valueAt_22
end
section
set_option maxHeartbeats 4000000 in
set_option maxRecDepth 100000 in
/-- occurrences -/
theorem mX_occurrences (l : Launch) (D : va_G) (d : ClassId) (h : Nat → Nat) (tx mt pt bl ab fl : Nat → Int32) (n k z : Nat) (cd : Int32) (hI : om_I tx mt pt bl ab fl n k z cd) : om_Mi l yX0_occurrences cX0_occurrences 3 (some .int) { frames := 4, cells := 0, slots := 0, locals := 120 } D d [.ref (h 0)] (om_X h d tx mt pt bl ab fl (nI n) (nI k) (nI z) cd) (fun (r : Int32) (u : om_S) => om_po (fun tx2 pt2 n2 k2 => tx2 = tx ∧ pt2 = pt ∧ n2 = n ∧ k2 = k ∧ r = nI (om_cnt (om_oc tx pt n k) n)) u) (om_Xu h d) := by
  intro sz
  refine om_enter (by decide) (Nat.le_of_ble_eq_true rfl) ?_
  intro p e s m below meth c ls C hr hlocks w hl
  generalize va_A (om_X h d tx mt pt bl ab fl (nI n) (nI k) (nI z) cd) sz = A at C w ⊢
  have C : om_C p m c cX0_occurrences 3 s _ RX0 D d A := C
  have hx := C.1.1
  have hb := C.1.2.1
  have hl : lv_has ls 3 [(0, .ref (h 0))] := hl
  obtain ⟨hn, hk, hz, hmt, hc⟩ := id hI
  refine lv_aload_n hx hb dX0_occurrences_0 rfl (lv_at hl 0 rfl) ?_
  refine om_callv (Wr := []) (As := []) (rest := []) C w (mX_refresh l D d h tx mt pt bl ab fl cd n k z hn hk hz hmt hc) [0, 1, 2, 3, 4, 5, 6] [] rfl rfl rfl rfl (by decide) rfl rfl (cwV 0 C.1.2.2.2.2 (lw_V q103 q105 qs1 q13 q106) rfl rfl rfl (by decide +kernel) ⟨Nat.le_of_ble_eq_true rfl, Nat.le_of_ble_eq_true rfl⟩) rfl hl.1 rfl (Nat.le_of_ble_eq_true rfl) dX0_occurrences_1 ⟨Nat.zero_le _, Nat.zero_le _⟩ (fun u_1 H locs hp_1 w => ?_)
  obtain ⟨mt2, bl2, ab2, fl2⟩ := u_1
  obtain ⟨hcod, hm⟩ := hp_1
  have hcod : om_cod pt k bl2 ab2 fl2 := hcod
  have hm : ∀ t, t < n → mt2 t = nI (om_mt tx pt k t) := hm
  have hI2 : om_I tx mt2 pt bl2 ab2 fl2 n k n (nI 1) := ⟨hn, hk, Nat.le_refl n, hm, Or.inr ⟨rfl, hcod⟩⟩
  have w : om_H D A s (om_X h d tx mt2 pt bl2 ab2 fl2 (nI n) (nI k) (nI n) (nI 1)) H locs := w
  refine lv_iconst (v := nI 0) hx hb dX0_occurrences_4 (by decide) ?_
  refine lv_istore_n (lv' := [(1, .int (nI 0)), (0, .ref (h 0))]) hx hb dX0_occurrences_5 rfl hl (by decide) rfl (fun ls hl => ?_)
  refine lv_iconst (v := nI 0) hx hb dX0_occurrences_6 (by decide) ?_
  refine lv_istore_n (lv' := [(2, .int (nI 0)), (1, .int (nI 0)), (0, .ref (h 0))]) hx hb dX0_occurrences_7 rfl hl (by decide) rfl (fun ls hl => ?_)
  refine om_loop2 (α := Nat) (β := Nat) (I := fun x sm H locs ls => (x ≤ n) ∧ (sm = om_cnt (om_ed tx pt k) x) ∧ om_H D A s (om_X h d tx mt2 pt bl2 ab2 fl2 (nI n) (nI k) (nI n) (nI 1)) H locs ∧ lv_has ls 3 [(0, .ref (h 0)), (1, .int (nI sm)), (2, .int (nI x))]) (μ := fun x sm => n - x) ?_ 0 0 _ _ _ ⟨Nat.zero_le _, rfl, w, lv_sub hl [2, 1, 0] rfl⟩
  intro x sm H locs ls hI ih_8
  obtain ⟨hxn, hsm, w, hl⟩ := hI
  refine lv_iload_n hx hb dX0_occurrences_8 rfl (lv_at hl 2 rfl) ?_
  refine lv_aload_n hx hb dX0_occurrences_9 rfl (lv_at hl 0 rfl) ?_
  refine xg_len C w dX0_occurrences_10 ?_
  refine om_icmp_ge (tgt := 33) hx hb dX0_occurrences_13 (by decide) (by omega) (by omega) (fun c_13 => ?_) (fun c_13 => ?_)
  · refine lv_iload_n hx hb dX0_occurrences_33 rfl (lv_at hl 1 rfl) ?_
    exact om_iret (tx, mt2, pt, bl2, ab2, fl2, n, k, n, nI 1) C hr hlocks w ⟨hI2, ⟨rfl, rfl, rfl, rfl, (by rw [hsm, show x = n by omega, om_occurrences])⟩⟩ dX0_occurrences_34
  · refine lv_aload_n hx hb dX0_occurrences_16 rfl (lv_at hl 0 rfl) ?_
    refine lv_iload_n hx hb dX0_occurrences_17 rfl (lv_at hl 2 rfl) ?_
    refine om_calli (Wr := []) (As := [.int (nI x)]) (rest := []) C w (mX_endsAt l D d h tx mt2 pt bl2 ab2 fl2 (nI n) (nI n) (nI 1) k x hk (by omega)) [0, 1, 2, 3, 4, 5, 6] [] rfl rfl rfl rfl (by decide) rfl rfl (cwV 1 C.1.2.2.2.2 (lw_V q127 q129 qs7 q13 q130) rfl rfl rfl (by decide +kernel) ⟨Nat.le_of_ble_eq_true rfl, Nat.le_of_ble_eq_true rfl⟩) rfl hl.1 rfl (Nat.le_of_ble_eq_true rfl) dX0_occurrences_18 ⟨Nat.zero_le _, Nat.zero_le _⟩ (fun r_3 u_3 H locs hp_3 w => ?_)
    have hp_3 : r_3 = bI (decide (0 < k) && decide (mt2 x = nI k)) := hp_3
    rw [om_ends (hm x (by omega)) hk] at hp_3
    subst hp_3
    have w : om_H D A s (om_X h d tx mt2 pt bl2 ab2 fl2 (nI n) (nI k) (nI n) (nI 1)) H locs := w
    refine om_if_eqB (tgt := 27) hx hb dX0_occurrences_21 (by decide) (fun c_21 => ?_) (fun c_21 => ?_)
    · have hs2 : sm = om_cnt (om_ed tx pt k) (x + 1) := by rw [om_cnt_f c_21]; exact hsm
      refine lv_iinc (v := nI (x + 1)) (lv' := [(2, .int (nI (x + 1))), (0, .ref (h 0)), (1, .int (nI sm))]) hx hb dX0_occurrences_27 hl (k := 2) rfl (nI_add _ 1) (by decide) rfl (fun ls hl => ?_)
      refine lv_goto (tgt := 8) hx hb dX0_occurrences_30 (by decide) ?_
      exact ih_8 (x + 1) sm _ _ _ (by first | omega | (dsimp only; omega)) ⟨by omega, hs2, w, lv_sub hl [1, 2, 0] rfl⟩
    · have hs2 : sm + 1 = om_cnt (om_ed tx pt k) (x + 1) := by rw [om_cnt_t c_21, hsm]
      refine lv_iinc (v := nI (sm + 1)) (lv' := [(1, .int (nI (sm + 1))), (0, .ref (h 0)), (2, .int (nI x))]) hx hb dX0_occurrences_24 hl (k := 1) rfl (nI_add _ 1) (by decide) rfl (fun ls hl => ?_)
      refine lv_iinc (v := nI (x + 1)) (lv' := [(2, .int (nI (x + 1))), (1, .int (nI (sm + 1))), (0, .ref (h 0))]) hx hb dX0_occurrences_27 hl (k := 2) rfl (nI_add _ 1) (by decide) rfl (fun ls hl => ?_)
      refine lv_goto (tgt := 8) hx hb dX0_occurrences_30 (by decide) ?_
      exact ih_8 (x + 1) (sm + 1) _ _ _ (by first | omega | (dsimp only; omega)) ⟨by omega, hs2, w, lv_sub hl [2, 1, 0] rfl⟩
set_option maxHeartbeats 4000000 in
set_option maxRecDepth 100000 in
/-- occurrence -/
theorem mX_occurrence (l : Launch) (D : va_G) (d : ClassId) (h : Nat → Nat) (tx mt pt bl ab fl : Nat → Int32) (n k z : Nat) (cd : Int32) (q : Int32) (hI : om_I tx mt pt bl ab fl n k z cd) : om_Mi l yX0_occurrence cX0_occurrence 4 (some .int) { frames := 4, cells := 0, slots := 0, locals := 120 } D d [.ref (h 0), .int q] (om_X h d tx mt pt bl ab fl (nI n) (nI k) (nI z) cd) (fun (r : Int32) (u : om_S) => om_po (fun tx2 pt2 n2 k2 => tx2 = tx ∧ pt2 = pt ∧ n2 = n ∧ k2 = k ∧ om_nth (om_oc tx pt n k) n q r) u) (om_Xu h d) := by
  intro sz
  refine om_enter (by decide) (Nat.le_of_ble_eq_true rfl) ?_
  intro p e s m below meth c ls C hr hlocks w hl
  generalize va_A (om_X h d tx mt pt bl ab fl (nI n) (nI k) (nI z) cd) sz = A at C w ⊢
  have C : om_C p m c cX0_occurrence 4 s _ RX0 D d A := C
  have hx := C.1.1
  have hb := C.1.2.1
  have hl : lv_has ls 4 [(0, .ref (h 0)), (1, .int q)] := hl
  obtain ⟨hn, hk, hz, hmt, hc⟩ := id hI
  refine lv_aload_n hx hb dX0_occurrence_0 rfl (lv_at hl 0 rfl) ?_
  refine om_callv (Wr := []) (As := []) (rest := []) C w (mX_refresh l D d h tx mt pt bl ab fl cd n k z hn hk hz hmt hc) [0, 1, 2, 3, 4, 5, 6] [] rfl rfl rfl rfl (by decide) rfl rfl (cwV 0 C.1.2.2.2.2 (lw_V q103 q105 qs1 q13 q106) rfl rfl rfl (by decide +kernel) ⟨Nat.le_of_ble_eq_true rfl, Nat.le_of_ble_eq_true rfl⟩) rfl hl.1 rfl (Nat.le_of_ble_eq_true rfl) dX0_occurrence_1 ⟨Nat.zero_le _, Nat.zero_le _⟩ (fun u_1 H locs hp_1 w => ?_)
  obtain ⟨mt2, bl2, ab2, fl2⟩ := u_1
  obtain ⟨hcod, hm⟩ := hp_1
  have hcod : om_cod pt k bl2 ab2 fl2 := hcod
  have hm : ∀ t, t < n → mt2 t = nI (om_mt tx pt k t) := hm
  have hI2 : om_I tx mt2 pt bl2 ab2 fl2 n k n (nI 1) := ⟨hn, hk, Nat.le_refl n, hm, Or.inr ⟨rfl, hcod⟩⟩
  have w : om_H D A s (om_X h d tx mt2 pt bl2 ab2 fl2 (nI n) (nI k) (nI n) (nI 1)) H locs := w
  refine lv_iload_n hx hb dX0_occurrence_4 rfl (lv_at hl 1 rfl) ?_
  refine lv_istore_n (lv' := [(2, .int q), (0, .ref (h 0)), (1, .int q)]) hx hb dX0_occurrence_5 rfl hl (by decide) rfl (fun ls hl => ?_)
  refine lv_iconst (v := nI 0) hx hb dX0_occurrence_6 (by decide) ?_
  refine lv_istore_n (lv' := [(3, .int (nI 0)), (2, .int q), (0, .ref (h 0)), (1, .int q)]) hx hb dX0_occurrence_7 rfl hl (by decide) rfl (fun ls hl => ?_)
  refine om_loop2 (α := Nat) (β := Int32) (I := fun x lf H locs ls => (x ≤ n) ∧ (lf = q - nI (om_cnt (om_ed tx pt k) x)) ∧ (∀ t, t < x → om_ed tx pt k t = true → ¬ q = nI (om_cnt (om_ed tx pt k) t)) ∧ om_H D A s (om_X h d tx mt2 pt bl2 ab2 fl2 (nI n) (nI k) (nI n) (nI 1)) H locs ∧ lv_has ls 4 [(0, .ref (h 0)), (1, .int q), (2, .int lf), (3, .int (nI x))]) (μ := fun x lf => n - x) ?_ 0 q _ _ _ ⟨Nat.zero_le _, (by show q = q - nI 0; rw [nI_0]; grind), lt_0, w, lv_sub hl [2, 3, 1, 0] rfl⟩
  intro x lf H locs ls hI ih_8
  obtain ⟨hxn, hlf, hno, w, hl⟩ := hI
  refine lv_iload_n hx hb dX0_occurrence_8 rfl (lv_at hl 3 rfl) ?_
  refine lv_aload_n hx hb dX0_occurrence_9 rfl (lv_at hl 0 rfl) ?_
  refine xg_len C w dX0_occurrence_10 ?_
  refine om_icmp_ge (tgt := 46) hx hb dX0_occurrence_13 (by decide) (by omega) (by omega) (fun c_13 => ?_) (fun c_13 => ?_)
  · refine lv_iconst (v := (-1)) hx hb dX0_occurrence_46 (by decide) ?_
    exact om_iret (tx, mt2, pt, bl2, ab2, fl2, n, k, n, nI 1) C hr hlocks w ⟨hI2, ⟨rfl, rfl, rfl, rfl, om_nth_ed (Or.inr ⟨rfl, fun t ht => hno t (by omega)⟩)⟩⟩ dX0_occurrence_47
  · refine lv_aload_n hx hb dX0_occurrence_16 rfl (lv_at hl 0 rfl) ?_
    refine lv_iload_n hx hb dX0_occurrence_17 rfl (lv_at hl 3 rfl) ?_
    refine om_calli (Wr := []) (As := [.int (nI x)]) (rest := []) C w (mX_endsAt l D d h tx mt2 pt bl2 ab2 fl2 (nI n) (nI n) (nI 1) k x hk (by omega)) [0, 1, 2, 3, 4, 5, 6] [] rfl rfl rfl rfl (by decide) rfl rfl (cwV 1 C.1.2.2.2.2 (lw_V q127 q129 qs7 q13 q130) rfl rfl rfl (by decide +kernel) ⟨Nat.le_of_ble_eq_true rfl, Nat.le_of_ble_eq_true rfl⟩) rfl hl.1 rfl (Nat.le_of_ble_eq_true rfl) dX0_occurrence_18 ⟨Nat.zero_le _, Nat.zero_le _⟩ (fun r_3 u_3 H locs hp_3 w => ?_)
    have hp_3 : r_3 = bI (decide (0 < k) && decide (mt2 x = nI k)) := hp_3
    rw [om_ends (hm x (by omega)) hk] at hp_3
    subst hp_3
    have w : om_H D A s (om_X h d tx mt2 pt bl2 ab2 fl2 (nI n) (nI k) (nI n) (nI 1)) H locs := w
    refine om_if_eqB (tgt := 40) hx hb dX0_occurrence_21 (by decide) (fun c_21 => ?_) (fun c_21 => ?_)
    · have hl2 : lf = q - nI (om_cnt (om_ed tx pt k) (x + 1)) := by rw [om_cnt_f c_21]; exact hlf
      have hn2 := lt_s hno (fun z => by rw [c_21] at z; cases z)
      refine lv_iinc (v := nI (x + 1)) (lv' := [(3, .int (nI (x + 1))), (0, .ref (h 0)), (1, .int q), (2, .int lf)]) hx hb dX0_occurrence_40 hl (k := 3) rfl (nI_add _ 1) (by decide) rfl (fun ls hl => ?_)
      refine lv_goto (tgt := 8) hx hb dX0_occurrence_43 (by decide) ?_
      exact ih_8 (x + 1) lf _ _ _ (by first | omega | (dsimp only; omega)) ⟨by omega, hl2, hn2, w, lv_sub hl [1, 2, 3, 0] rfl⟩
    · refine lv_iload_n hx hb dX0_occurrence_24 rfl (lv_at hl 2 rfl) ?_
      refine lv_if_ne (tgt := 37) hx hb dX0_occurrence_25 (by decide) (fun c_25 => ?_) (fun c_25 => ?_)
      · have hl2 : lf + (-1) = q - nI (om_cnt (om_ed tx pt k) (x + 1)) := by rw [om_cnt_t c_21, hlf]; exact om_dec
        have hn2 := lt_s hno (fun _ => om_sub0n (by rw [← hlf]; exact c_25))
        refine lv_iinc (v := (lf + (-1))) (lv' := [(2, .int (lf + (-1))), (0, .ref (h 0)), (1, .int q), (3, .int (nI x))]) hx hb dX0_occurrence_37 hl (k := 2) rfl rfl (by decide) rfl (fun ls hl => ?_)
        refine lv_iinc (v := nI (x + 1)) (lv' := [(3, .int (nI (x + 1))), (2, .int (lf + (-1))), (0, .ref (h 0)), (1, .int q)]) hx hb dX0_occurrence_40 hl (k := 3) rfl (nI_add _ 1) (by decide) rfl (fun ls hl => ?_)
        refine lv_goto (tgt := 8) hx hb dX0_occurrence_43 (by decide) ?_
        exact ih_8 (x + 1) (lf + (-1)) _ _ _ (by first | omega | (dsimp only; omega)) ⟨by omega, hl2, hn2, w, lv_sub hl [2, 3, 1, 0] rfl⟩
      · have hkx := (om_ed_iff.mp c_21).2.1
        refine lv_iload_n hx hb dX0_occurrence_28 rfl (lv_at hl 3 rfl) ?_
        refine lv_aload_n hx hb dX0_occurrence_29 rfl (lv_at hl 0 rfl) ?_
        refine xg_siz C w dX0_occurrence_30 ?_
        refine lv_isub hx hb dX0_occurrence_33 ?_
        refine lv_iconst (v := nI 1) hx hb dX0_occurrence_34 (by decide) ?_
        refine lv_iadd hx hb dX0_occurrence_35 ?_
        refine lv_topi (fun y_ ey_ => ?_)
        have ey_ : y_ = nI (x + 1 - k) := ey_.trans (om_sub1 hkx)
        subst ey_
        exact om_iret (tx, mt2, pt, bl2, ab2, fl2, n, k, n, nI 1) C hr hlocks w ⟨hI2, ⟨rfl, rfl, rfl, rfl, om_nth_ed (Or.inl ⟨x, c_13, c_21, om_sub0 (hlf.symm.trans c_25), rfl⟩)⟩⟩ dX0_occurrence_36
set_option maxHeartbeats 4000000 in
set_option maxRecDepth 100000 in
/-- occursAt -/
theorem mX_occursAt (l : Launch) (D : va_G) (d : ClassId) (h : Nat → Nat) (tx mt pt bl ab fl : Nat → Int32) (n k z : Nat) (cd : Int32) (q : Int32) (hI : om_I tx mt pt bl ab fl n k z cd) : om_Mi l yX0_occursAt cX0_occursAt 2 (some .int) { frames := 4, cells := 0, slots := 0, locals := 120 } D d [.ref (h 0), .int q] (om_X h d tx mt pt bl ab fl (nI n) (nI k) (nI z) cd) (fun (r : Int32) (u : om_S) => om_po (fun tx2 pt2 n2 k2 => tx2 = tx ∧ pt2 = pt ∧ n2 = n ∧ k2 = k ∧ r = om_rng 0 (2 ^ 31) q.toInt (nI 0) (fun p => bI (om_oc tx pt n k p))) u) (om_Xu h d) := by
  intro sz
  refine om_enter (by decide) (Nat.le_of_ble_eq_true rfl) ?_
  intro p e s m below meth c ls C hr hlocks w hl
  generalize va_A (om_X h d tx mt pt bl ab fl (nI n) (nI k) (nI z) cd) sz = A at C w ⊢
  have C : om_C p m c cX0_occursAt 2 s _ RX0 D d A := C
  have hx := C.1.1
  have hb := C.1.2.1
  have hl : lv_has ls 2 [(0, .ref (h 0)), (1, .int q)] := hl
  obtain ⟨hn, hk, hz, hmt, hc⟩ := id hI
  refine lv_iload_n hx hb dX0_occursAt_0 rfl (lv_at hl 1 rfl) ?_
  refine lv_if_lt (tgt := 17) hx hb dX0_occursAt_1 (by decide) (fun c_1 => ?_) (fun c_1 => ?_)
  · refine lv_iconst (v := nI 0) hx hb dX0_occursAt_17 (by decide) ?_
    exact om_iret (tx, mt, pt, bl, ab, fl, n, k, z, cd) C hr hlocks w ⟨hI, ⟨rfl, rfl, rfl, rfl, om_rng_b (Or.inl (om_neg c_1))⟩⟩ dX0_occursAt_18
  · obtain ⟨y, hy, rfl⟩ := nI_of c_1
    refine lv_iload_n hx hb dX0_occursAt_4 rfl (lv_at hl 1 rfl) ?_
    refine lv_aload_n hx hb dX0_occursAt_5 rfl (lv_at hl 0 rfl) ?_
    refine xg_len C w dX0_occursAt_6 ?_
    refine lv_aload_n hx hb dX0_occursAt_9 rfl (lv_at hl 0 rfl) ?_
    refine xg_siz C w dX0_occursAt_10 ?_
    refine lv_isub hx hb dX0_occursAt_13 ?_
    refine om_icmp_leD (tgt := 19) (x := y) (a := n) (b := k) hx hb dX0_occursAt_14 (by decide) (by omega) (by omega) (by omega) (fun c_14 => ?_) (fun c_14 => ?_)
    · refine lv_aload_n hx hb dX0_occursAt_19 rfl (lv_at hl 0 rfl) ?_
      refine om_callv (Wr := []) (As := []) (rest := []) C w (mX_refresh l D d h tx mt pt bl ab fl cd n k z hn hk hz hmt hc) [0, 1, 2, 3, 4, 5, 6] [] rfl rfl rfl rfl (by decide) rfl rfl (cwV 0 C.1.2.2.2.2 (lw_V q103 q105 qs1 q13 q106) rfl rfl rfl (by decide +kernel) ⟨Nat.le_of_ble_eq_true rfl, Nat.le_of_ble_eq_true rfl⟩) rfl hl.1 rfl (Nat.le_of_ble_eq_true rfl) dX0_occursAt_20 ⟨Nat.zero_le _, Nat.zero_le _⟩ (fun u_1 H locs hp_1 w => ?_)
      obtain ⟨mt2, bl2, ab2, fl2⟩ := u_1
      obtain ⟨hcod, hm⟩ := hp_1
      have hcod : om_cod pt k bl2 ab2 fl2 := hcod
      have hm : ∀ t, t < n → mt2 t = nI (om_mt tx pt k t) := hm
      have hI2 : om_I tx mt2 pt bl2 ab2 fl2 n k n (nI 1) := ⟨hn, hk, Nat.le_refl n, hm, Or.inr ⟨rfl, hcod⟩⟩
      have w : om_H D A s (om_X h d tx mt2 pt bl2 ab2 fl2 (nI n) (nI k) (nI n) (nI 1)) H locs := w
      refine lv_aload_n hx hb dX0_occursAt_23 rfl (lv_at hl 0 rfl) ?_
      refine xg_siz C w dX0_occursAt_24 ?_
      refine om_if_le (tgt := 49) hx hb dX0_occursAt_27 (by decide) (by omega) (fun c_27 => ?_) (fun c_27 => ?_)
      · refine lv_iconst (v := nI 0) hx hb dX0_occursAt_49 (by decide) ?_
        have ez : nI 0 = bI (om_oc tx pt n k y) := by rw [om_b_f (fun z => absurd (om_oc_iff.mp z).1 (by omega))]; rfl
        exact om_iret (tx, mt2, pt, bl2, ab2, fl2, n, k, n, nI 1) C hr hlocks w ⟨hI2, ⟨rfl, rfl, rfl, rfl, ez.trans (om_rng_g (good := fun p => bI (om_oc tx pt n k p)) hy (by omega) (by omega))⟩⟩ dX0_occursAt_50
      · refine lv_aload_n hx hb dX0_occursAt_30 rfl (lv_at hl 0 rfl) ?_
        refine lv_iload_n hx hb dX0_occursAt_31 rfl (lv_at hl 1 rfl) ?_
        refine lv_aload_n hx hb dX0_occursAt_32 rfl (lv_at hl 0 rfl) ?_
        refine xg_siz C w dX0_occursAt_33 ?_
        refine om_iadd hx hb dX0_occursAt_36 ?_
        refine lv_iconst (v := nI 1) hx hb dX0_occursAt_37 (by decide) ?_
        refine om_isub hx hb (by omega) dX0_occursAt_38 ?_
        refine om_calli (Wr := []) (As := [.int (nI ((y + k) - 1))]) (rest := []) C w (mX_endsAt l D d h tx mt2 pt bl2 ab2 fl2 (nI n) (nI n) (nI 1) k ((y + k) - 1) hk (by omega)) [0, 1, 2, 3, 4, 5, 6] [] rfl rfl rfl rfl (by decide) rfl rfl (cwV 1 C.1.2.2.2.2 (lw_V q127 q129 qs7 q13 q130) rfl rfl rfl (by decide +kernel) ⟨Nat.le_of_ble_eq_true rfl, Nat.le_of_ble_eq_true rfl⟩) rfl hl.1 rfl (Nat.le_of_ble_eq_true rfl) dX0_occursAt_39 ⟨Nat.zero_le _, Nat.zero_le _⟩ (fun r_2 u_2 H locs hp_2 w => ?_)
        have hp_2 : r_2 = bI (decide (0 < k) && decide (mt2 ((y + k) - 1) = nI k)) := hp_2
        rw [om_ends (hm ((y + k) - 1) (by omega)) hk] at hp_2
        subst hp_2
        have w : om_H D A s (om_X h d tx mt2 pt bl2 ab2 fl2 (nI n) (nI k) (nI n) (nI 1)) H locs := w
        refine om_if_eqB (tgt := 49) hx hb dX0_occursAt_42 (by decide) (fun c_42 => ?_) (fun c_42 => ?_)
        · refine lv_iconst (v := nI 0) hx hb dX0_occursAt_49 (by decide) ?_
          have eo : om_ed tx pt k (y + k - 1) = om_oc tx pt n k y := by rw [om_ed_oc (n := n) (by omega) (by omega), show y + k - 1 + 1 - k = y by omega]
          rw [c_42] at eo
          have ez : nI 0 = bI (om_oc tx pt n k y) := by rw [← eo]; rfl
          exact om_iret (tx, mt2, pt, bl2, ab2, fl2, n, k, n, nI 1) C hr hlocks w ⟨hI2, ⟨rfl, rfl, rfl, rfl, ez.trans (om_rng_g (good := fun p => bI (om_oc tx pt n k p)) hy (by omega) (by omega))⟩⟩ dX0_occursAt_50
        · refine lv_iconst (v := nI 1) hx hb dX0_occursAt_45 (by decide) ?_
          refine lv_goto (tgt := 50) hx hb dX0_occursAt_46 (by decide) ?_
          have eo : om_ed tx pt k (y + k - 1) = om_oc tx pt n k y := by rw [om_ed_oc (n := n) (by omega) (by omega), show y + k - 1 + 1 - k = y by omega]
          rw [c_42] at eo
          have ez : nI 1 = bI (om_oc tx pt n k y) := by rw [← eo]; rfl
          exact om_iret (tx, mt2, pt, bl2, ab2, fl2, n, k, n, nI 1) C hr hlocks w ⟨hI2, ⟨rfl, rfl, rfl, rfl, ez.trans (om_rng_g (good := fun p => bI (om_oc tx pt n k p)) hy (by omega) (by omega))⟩⟩ dX0_occursAt_50
    · refine lv_iconst (v := nI 0) hx hb dX0_occursAt_17 (by decide) ?_
      have ez : nI 0 = bI (om_oc tx pt n k y) := by rw [om_oc_f c_14]; rfl
      exact om_iret (tx, mt, pt, bl, ab, fl, n, k, z, cd) C hr hlocks w ⟨hI, ⟨rfl, rfl, rfl, rfl, ez.trans (om_rng_g (good := fun p => bI (om_oc tx pt n k p)) hy (by omega) (by omega))⟩⟩ dX0_occursAt_18
set_option maxHeartbeats 4000000 in
set_option maxRecDepth 100000 in
/-- nextFrom -/
theorem mX_nextFrom (l : Launch) (D : va_G) (d : ClassId) (h : Nat → Nat) (tx mt pt bl ab fl : Nat → Int32) (n k z : Nat) (cd : Int32) (q : Int32) (hI : om_I tx mt pt bl ab fl n k z cd) : om_Mi l yX0_nextFrom cX0_nextFrom 4 (some .int) { frames := 4, cells := 0, slots := 0, locals := 120 } D d [.ref (h 0), .int q] (om_X h d tx mt pt bl ab fl (nI n) (nI k) (nI z) cd) (fun (r : Int32) (u : om_S) => om_po (fun tx2 pt2 n2 k2 => tx2 = tx ∧ pt2 = pt ∧ n2 = n ∧ k2 = k ∧ om_nx (om_oc tx pt n k) n q r) u) (om_Xu h d) := by
  intro sz
  refine om_enter (by decide) (Nat.le_of_ble_eq_true rfl) ?_
  intro p e s m below meth c ls C hr hlocks w hl
  generalize va_A (om_X h d tx mt pt bl ab fl (nI n) (nI k) (nI z) cd) sz = A at C w ⊢
  have C : om_C p m c cX0_nextFrom 4 s _ RX0 D d A := C
  have hx := C.1.1
  have hb := C.1.2.1
  have hl : lv_has ls 4 [(0, .ref (h 0)), (1, .int q)] := hl
  obtain ⟨hn, hk, hz, hmt, hc⟩ := id hI
  refine lv_aload_n hx hb dX0_nextFrom_0 rfl (lv_at hl 0 rfl) ?_
  refine om_callv (Wr := []) (As := []) (rest := []) C w (mX_refresh l D d h tx mt pt bl ab fl cd n k z hn hk hz hmt hc) [0, 1, 2, 3, 4, 5, 6] [] rfl rfl rfl rfl (by decide) rfl rfl (cwV 0 C.1.2.2.2.2 (lw_V q103 q105 qs1 q13 q106) rfl rfl rfl (by decide +kernel) ⟨Nat.le_of_ble_eq_true rfl, Nat.le_of_ble_eq_true rfl⟩) rfl hl.1 rfl (Nat.le_of_ble_eq_true rfl) dX0_nextFrom_1 ⟨Nat.zero_le _, Nat.zero_le _⟩ (fun u_1 H locs hp_1 w => ?_)
  obtain ⟨mt2, bl2, ab2, fl2⟩ := u_1
  obtain ⟨hcod, hm⟩ := hp_1
  have hcod : om_cod pt k bl2 ab2 fl2 := hcod
  have hm : ∀ t, t < n → mt2 t = nI (om_mt tx pt k t) := hm
  have hI2 : om_I tx mt2 pt bl2 ab2 fl2 n k n (nI 1) := ⟨hn, hk, Nat.le_refl n, hm, Or.inr ⟨rfl, hcod⟩⟩
  have w : om_H D A s (om_X h d tx mt2 pt bl2 ab2 fl2 (nI n) (nI k) (nI n) (nI 1)) H locs := w
  refine om_join1 (α := Nat) (pc2 := 14) (I := fun s0 H locs ls => (∀ t, t < 2 ^ 31 → (q ≤ nI t ↔ s0 ≤ t)) ∧ (s0 < 2 ^ 31) ∧ om_H D A s (om_X h d tx mt2 pt bl2 ab2 fl2 (nI n) (nI k) (nI n) (nI 1)) H locs ∧ lv_has ls 4 [(0, .ref (h 0)), (2, .int (nI s0))]) ?_ ?_
  · intro s0 H locs ls hI
    obtain ⟨hs, hs0, w, hl⟩ := hI
    refine lv_aload_n hx hb dX0_nextFrom_14 rfl (lv_at hl 0 rfl) ?_
    refine xg_siz C w dX0_nextFrom_15 ?_
    refine om_if_eq (tgt := 34) hx hb dX0_nextFrom_18 (by decide) (by omega) (fun c_18 => ?_) (fun c_18 => ?_)
    · refine lv_iconst (v := (-1)) hx hb dX0_nextFrom_34 (by decide) ?_
      exact om_iret (tx, mt2, pt, bl2, ab2, fl2, n, k, n, nI 1) C hr hlocks w ⟨hI2, ⟨rfl, rfl, rfl, rfl, Or.inr ⟨rfl, fun t _ _ => om_b_f fun z => absurd (om_oc_iff.mp z).1 (by omega)⟩⟩⟩ dX0_nextFrom_35
    · refine lv_iload_n hx hb dX0_nextFrom_21 rfl (lv_at hl 1 rfl) ?_
      refine lv_aload_n hx hb dX0_nextFrom_22 rfl (lv_at hl 0 rfl) ?_
      refine xg_len C w dX0_nextFrom_23 ?_
      refine lv_aload_n hx hb dX0_nextFrom_26 rfl (lv_at hl 0 rfl) ?_
      refine xg_siz C w dX0_nextFrom_27 ?_
      refine lv_isub hx hb dX0_nextFrom_30 ?_
      refine om_icmp_leD (tgt := 36) (x := s0) (a := n) (b := k) hx hb dX0_nextFrom_31 (by decide) (by omega) (by omega) (by omega) (fun c_31 => ?_) (fun c_31 => ?_)
      · refine lv_iload_n hx hb dX0_nextFrom_36 rfl (lv_at hl 1 rfl) ?_
        refine lv_aload_n hx hb dX0_nextFrom_37 rfl (lv_at hl 0 rfl) ?_
        refine xg_siz C w dX0_nextFrom_38 ?_
        refine om_iadd hx hb dX0_nextFrom_41 ?_
        refine lv_iconst (v := nI 1) hx hb dX0_nextFrom_42 (by decide) ?_
        refine om_isub hx hb (by omega) dX0_nextFrom_43 ?_
        refine lv_istore_n (lv' := [(3, .int (nI ((s0 + k) - 1))), (0, .ref (h 0)), (2, .int (nI s0))]) hx hb dX0_nextFrom_44 rfl hl (by decide) rfl (fun ls hl => ?_)
        refine om_loop1 (α := Nat) (I := fun x H locs ls => (s0 + k - 1 ≤ x) ∧ (x ≤ n) ∧ (∀ t, s0 + k - 1 ≤ t → t < x → om_ed tx pt k t = false) ∧ om_H D A s (om_X h d tx mt2 pt bl2 ab2 fl2 (nI n) (nI k) (nI n) (nI 1)) H locs ∧ lv_has ls 4 [(0, .ref (h 0)), (3, .int (nI x))]) (μ := fun x => n - x) ?_ (s0 + k - 1) _ _ _ ⟨Nat.le_refl _, (by omega), (fun t t1 t2 => absurd t1 (by omega)), w, lv_sub hl [1, 0] rfl⟩
        intro x H locs ls hI ih_45
        obtain ⟨hx0, hxn, hno, w, hl⟩ := hI
        refine lv_iload_n hx hb dX0_nextFrom_45 rfl (lv_at hl 1 rfl) ?_
        refine lv_aload_n hx hb dX0_nextFrom_46 rfl (lv_at hl 0 rfl) ?_
        refine xg_len C w dX0_nextFrom_47 ?_
        refine om_icmp_ge (tgt := 76) hx hb dX0_nextFrom_50 (by decide) (by omega) (by omega) (fun c_50 => ?_) (fun c_50 => ?_)
        · refine lv_iconst (v := (-1)) hx hb dX0_nextFrom_76 (by decide) ?_
          have hfin : ∀ t, t < n → q ≤ nI t → om_oc tx pt n k t = false := fun t t1 t2 => by
            have a := (hs t (by omega)).mp t2
            rcases Nat.lt_or_ge n (t + k) with z | z
            · exact om_oc_f z
            · have b := hno (t + k - 1) (by omega) (by omega)
              rw [om_ed_oc (n := n) (by omega) (by omega), show t + k - 1 + 1 - k = t by omega] at b
              exact b
          exact om_iret (tx, mt2, pt, bl2, ab2, fl2, n, k, n, nI 1) C hr hlocks w ⟨hI2, ⟨rfl, rfl, rfl, rfl, Or.inr ⟨rfl, hfin⟩⟩⟩ dX0_nextFrom_77
        · refine lv_aload_n hx hb dX0_nextFrom_53 rfl (lv_at hl 0 rfl) ?_
          refine lv_iload_n hx hb dX0_nextFrom_54 rfl (lv_at hl 1 rfl) ?_
          refine om_calli (Wr := []) (As := [.int (nI x)]) (rest := []) C w (mX_endsAt l D d h tx mt2 pt bl2 ab2 fl2 (nI n) (nI n) (nI 1) k x hk (by omega)) [0, 1, 2, 3, 4, 5, 6] [] rfl rfl rfl rfl (by decide) rfl rfl (cwV 1 C.1.2.2.2.2 (lw_V q127 q129 qs7 q13 q130) rfl rfl rfl (by decide +kernel) ⟨Nat.le_of_ble_eq_true rfl, Nat.le_of_ble_eq_true rfl⟩) rfl hl.1 rfl (Nat.le_of_ble_eq_true rfl) dX0_nextFrom_55 ⟨Nat.zero_le _, Nat.zero_le _⟩ (fun r_3 u_3 H locs hp_3 w => ?_)
          have hp_3 : r_3 = bI (decide (0 < k) && decide (mt2 x = nI k)) := hp_3
          rw [om_ends (hm x (by omega)) hk] at hp_3
          subst hp_3
          have w : om_H D A s (om_X h d tx mt2 pt bl2 ab2 fl2 (nI n) (nI k) (nI n) (nI 1)) H locs := w
          refine om_if_eqB (tgt := 70) hx hb dX0_nextFrom_58 (by decide) (fun c_58 => ?_) (fun c_58 => ?_)
          · have hn2 : ∀ t, s0 + k - 1 ≤ t → t < x + 1 → om_ed tx pt k t = false := fun t t1 t2 => by
              rcases Nat.lt_or_ge t x with z | z
              · exact hno t t1 z
              · rw [show t = x by omega]; exact c_58
            refine lv_iinc (v := nI (x + 1)) (lv' := [(3, .int (nI (x + 1))), (0, .ref (h 0))]) hx hb dX0_nextFrom_70 hl (k := 1) rfl (nI_add _ 1) (by decide) rfl (fun ls hl => ?_)
            refine lv_goto (tgt := 45) hx hb dX0_nextFrom_73 (by decide) ?_
            exact ih_45 (x + 1) _ _ _ (by first | omega | (dsimp only; omega)) ⟨by omega, by omega, hn2, w, lv_sub hl [1, 0] rfl⟩
          · have hkx := (om_ed_iff.mp c_58).2.1
            refine lv_iload_n hx hb dX0_nextFrom_61 rfl (lv_at hl 1 rfl) ?_
            refine lv_aload_n hx hb dX0_nextFrom_62 rfl (lv_at hl 0 rfl) ?_
            refine xg_siz C w dX0_nextFrom_63 ?_
            refine lv_isub hx hb dX0_nextFrom_66 ?_
            refine lv_iconst (v := nI 1) hx hb dX0_nextFrom_67 (by decide) ?_
            refine lv_iadd hx hb dX0_nextFrom_68 ?_
            refine lv_topi (fun y_ ey_ => ?_)
            have ey_ : y_ = nI (x + 1 - k) := ey_.trans (om_sub1 hkx)
            subst ey_
            have ho : om_oc tx pt n k (x + 1 - k) = true := by rw [← om_ed_oc c_50 hkx]; exact c_58
            have hmin : ∀ t, t < x + 1 - k → q ≤ nI t → om_oc tx pt n k t = false := fun t t1 t2 => by
              have a := (hs t (by omega)).mp t2
              have b := hno (t + k - 1) (by omega) (by omega)
              rw [om_ed_oc (n := n) (by omega) (by omega), show t + k - 1 + 1 - k = t by omega] at b
              exact b
            exact om_iret (tx, mt2, pt, bl2, ab2, fl2, n, k, n, nI 1) C hr hlocks w ⟨hI2, ⟨rfl, rfl, rfl, rfl, Or.inl ⟨x + 1 - k, by omega, ho, (hs _ (by omega)).mpr (by omega), rfl, hmin⟩⟩⟩ dX0_nextFrom_69
      · refine lv_iconst (v := (-1)) hx hb dX0_nextFrom_34 (by decide) ?_
        exact om_iret (tx, mt2, pt, bl2, ab2, fl2, n, k, n, nI 1) C hr hlocks w ⟨hI2, ⟨rfl, rfl, rfl, rfl, Or.inr ⟨rfl, fun t t1 t2 => om_oc_f (by have := (hs t (by omega)).mp t2; omega)⟩⟩⟩ dX0_nextFrom_35
  · intro j_14
    refine lv_iload_n hx hb dX0_nextFrom_4 rfl (lv_at hl 1 rfl) ?_
    refine lv_if_ge (tgt := 12) hx hb dX0_nextFrom_5 (by decide) (fun c_5 => ?_) (fun c_5 => ?_)
    · obtain ⟨y, hy, ey⟩ := nI_of (om_nlt c_5)
      have hs : ∀ t, t < 2 ^ 31 → (q ≤ nI t ↔ y ≤ t) := fun t ht => by rw [ey]; exact nI_leI hy ht
      rw [ey] at hl
      refine lv_iload_n hx hb dX0_nextFrom_12 rfl (lv_at hl 1 rfl) ?_
      refine lv_istore_n (lv' := [(2, .int (nI y)), (0, .ref (h 0)), (1, .int (nI y))]) hx hb dX0_nextFrom_13 rfl hl (by decide) rfl (fun ls hl => ?_)
      exact j_14 y _ _ _ ⟨hs, hy, w, lv_sub hl [1, 0] rfl⟩
    · have hs : ∀ t, t < 2 ^ 31 → (q ≤ nI t ↔ 0 ≤ t) := fun t ht => ⟨fun _ => Nat.zero_le _, fun _ => om_letr (om_ltle (om_nle c_5)) (nI_pos' ht)⟩
      refine lv_iconst (v := nI 0) hx hb dX0_nextFrom_8 (by decide) ?_
      refine lv_goto (tgt := 13) hx hb dX0_nextFrom_9 (by decide) ?_
      refine lv_istore_n (lv' := [(2, .int (nI 0)), (0, .ref (h 0)), (1, .int q)]) hx hb dX0_nextFrom_13 rfl hl (by decide) rfl (fun ls hl => ?_)
      exact j_14 0 _ _ _ ⟨hs, by omega, w, lv_sub hl [1, 0] rfl⟩
set_option maxHeartbeats 4000000 in
set_option maxRecDepth 100000 in
/-- matchedAt -/
theorem mX_matchedAt (l : Launch) (D : va_G) (d : ClassId) (h : Nat → Nat) (tx mt pt bl ab fl : Nat → Int32) (n k z : Nat) (cd : Int32) (q : Int32) (hI : om_I tx mt pt bl ab fl n k z cd) : om_Mi l yX0_matchedAt cX0_matchedAt 2 (some .int) { frames := 4, cells := 0, slots := 0, locals := 120 } D d [.ref (h 0), .int q] (om_X h d tx mt pt bl ab fl (nI n) (nI k) (nI z) cd) (fun (r : Int32) (u : om_S) => om_po (fun tx2 pt2 n2 k2 => tx2 = tx ∧ pt2 = pt ∧ n2 = n ∧ k2 = k ∧ r = om_rng 0 ((n : Int) - 1) q.toInt (-1) (fun p => nI (om_mt tx pt k p))) u) (om_Xu h d) := by
  intro sz
  refine om_enter (by decide) (Nat.le_of_ble_eq_true rfl) ?_
  intro p e s m below meth c ls C hr hlocks w hl
  generalize va_A (om_X h d tx mt pt bl ab fl (nI n) (nI k) (nI z) cd) sz = A at C w ⊢
  have C : om_C p m c cX0_matchedAt 2 s _ RX0 D d A := C
  have hx := C.1.1
  have hb := C.1.2.1
  have hl : lv_has ls 2 [(0, .ref (h 0)), (1, .int q)] := hl
  obtain ⟨hn, hk, hz, hmt, hc⟩ := id hI
  refine lv_iload_n hx hb dX0_matchedAt_0 rfl (lv_at hl 1 rfl) ?_
  refine lv_if_lt (tgt := 12) hx hb dX0_matchedAt_1 (by decide) (fun c_1 => ?_) (fun c_1 => ?_)
  · refine lv_iconst (v := (-1)) hx hb dX0_matchedAt_12 (by decide) ?_
    exact om_iret (tx, mt, pt, bl, ab, fl, n, k, z, cd) C hr hlocks w ⟨hI, ⟨rfl, rfl, rfl, rfl, om_rng_b (Or.inl (om_neg c_1))⟩⟩ dX0_matchedAt_13
  · obtain ⟨y, hy, rfl⟩ := nI_of c_1
    refine lv_iload_n hx hb dX0_matchedAt_4 rfl (lv_at hl 1 rfl) ?_
    refine lv_aload_n hx hb dX0_matchedAt_5 rfl (lv_at hl 0 rfl) ?_
    refine xg_len C w dX0_matchedAt_6 ?_
    refine om_icmp_lt (tgt := 14) hx hb dX0_matchedAt_9 (by decide) (by omega) (by omega) (fun c_9 => ?_) (fun c_9 => ?_)
    · refine lv_aload_n hx hb dX0_matchedAt_14 rfl (lv_at hl 0 rfl) ?_
      refine om_callv (Wr := []) (As := []) (rest := []) C w (mX_refresh l D d h tx mt pt bl ab fl cd n k z hn hk hz hmt hc) [0, 1, 2, 3, 4, 5, 6] [] rfl rfl rfl rfl (by decide) rfl rfl (cwV 0 C.1.2.2.2.2 (lw_V q103 q105 qs1 q13 q106) rfl rfl rfl (by decide +kernel) ⟨Nat.le_of_ble_eq_true rfl, Nat.le_of_ble_eq_true rfl⟩) rfl hl.1 rfl (Nat.le_of_ble_eq_true rfl) dX0_matchedAt_15 ⟨Nat.zero_le _, Nat.zero_le _⟩ (fun u_1 H locs hp_1 w => ?_)
      obtain ⟨mt2, bl2, ab2, fl2⟩ := u_1
      obtain ⟨hcod, hm⟩ := hp_1
      have hcod : om_cod pt k bl2 ab2 fl2 := hcod
      have hm : ∀ t, t < n → mt2 t = nI (om_mt tx pt k t) := hm
      have hI2 : om_I tx mt2 pt bl2 ab2 fl2 n k n (nI 1) := ⟨hn, hk, Nat.le_refl n, hm, Or.inr ⟨rfl, hcod⟩⟩
      have w : om_H D A s (om_X h d tx mt2 pt bl2 ab2 fl2 (nI n) (nI k) (nI n) (nI 1)) H locs := w
      refine lv_aload_n hx hb dX0_matchedAt_18 rfl (lv_at hl 0 rfl) ?_
      refine xg_mt C w dX0_matchedAt_19 ?_
      refine lv_iload_n hx hb dX0_matchedAt_22 rfl (lv_at hl 1 rfl) ?_
      refine xl_mt C w (i := y) (by omega) dX0_matchedAt_23 ?_
      refine lv_topi (fun y_ ey_ => ?_)
      have ey_ : y_ = nI (om_mt tx pt k y) := ey_.trans (hm y c_9)
      subst ey_
      exact om_iret (tx, mt2, pt, bl2, ab2, fl2, n, k, n, nI 1) C hr hlocks w ⟨hI2, ⟨rfl, rfl, rfl, rfl, om_rng_g (good := fun p => nI (om_mt tx pt k p)) hy (by omega) (by omega)⟩⟩ dX0_matchedAt_24
    · refine lv_iconst (v := (-1)) hx hb dX0_matchedAt_12 (by decide) ?_
      exact om_iret (tx, mt, pt, bl, ab, fl, n, k, z, cd) C hr hlocks w ⟨hI, ⟨rfl, rfl, rfl, rfl, om_rng_h hy (by omega)⟩⟩ dX0_matchedAt_13
set_option maxHeartbeats 4000000 in
set_option maxRecDepth 100000 in
/-- border -/
theorem mX_border (l : Launch) (D : va_G) (d : ClassId) (h : Nat → Nat) (tx mt pt bl ab fl : Nat → Int32) (n k z : Nat) (cd : Int32) (q : Int32) (hI : om_I tx mt pt bl ab fl n k z cd) : om_Mi l yX0_border cX0_border 2 (some .int) { frames := 3, cells := 0, slots := 0, locals := 90 } D d [.ref (h 0), .int q] (om_X h d tx mt pt bl ab fl (nI n) (nI k) (nI z) cd) (fun (r : Int32) (u : om_S) => om_po (fun tx2 pt2 n2 k2 => tx2 = tx ∧ pt2 = pt ∧ n2 = n ∧ k2 = k ∧ r = om_rng 1 (k : Int) q.toInt (-1) (fun p => nI (om_wd pt p))) u) (om_Xu h d) := by
  intro sz
  refine om_enter (by decide) (Nat.le_of_ble_eq_true rfl) ?_
  intro p e s m below meth c ls C hr hlocks w hl
  generalize va_A (om_X h d tx mt pt bl ab fl (nI n) (nI k) (nI z) cd) sz = A at C w ⊢
  have C : om_C p m c cX0_border 2 s _ RX0 D d A := C
  have hx := C.1.1
  have hb := C.1.2.1
  have hl : lv_has ls 2 [(0, .ref (h 0)), (1, .int q)] := hl
  obtain ⟨hn, hk, hz, hmt, hc⟩ := id hI
  refine lv_iload_n hx hb dX0_border_0 rfl (lv_at hl 1 rfl) ?_
  refine lv_iconst (v := nI 1) hx hb dX0_border_1 (by decide) ?_
  refine lv_icmp_lt (tgt := 13) hx hb dX0_border_2 (by decide) (fun c_2 => ?_) (fun c_2 => ?_)
  · refine lv_iconst (v := (-1)) hx hb dX0_border_13 (by decide) ?_
    exact om_iret (tx, mt, pt, bl, ab, fl, n, k, z, cd) C hr hlocks w ⟨hI, ⟨rfl, rfl, rfl, rfl, om_rng_b (Or.inl (om_lt1 c_2))⟩⟩ dX0_border_14
  · obtain ⟨y, hy1, hy, rfl⟩ := om_ge1 c_2
    refine lv_iload_n hx hb dX0_border_5 rfl (lv_at hl 1 rfl) ?_
    refine lv_aload_n hx hb dX0_border_6 rfl (lv_at hl 0 rfl) ?_
    refine xg_siz C w dX0_border_7 ?_
    refine om_icmp_le (tgt := 15) hx hb dX0_border_10 (by decide) (by omega) (by omega) (fun c_10 => ?_) (fun c_10 => ?_)
    · refine lv_aload_n hx hb dX0_border_15 rfl (lv_at hl 0 rfl) ?_
      refine om_callv (Wr := []) (As := []) (rest := []) C w (mX_code l D d h tx mt pt bl ab fl (nI n) (nI z) cd k hk hc) [0, 1, 2, 3, 4, 5, 6] [] rfl rfl rfl rfl (by decide) rfl rfl (cwV 0 C.1.2.2.2.2 (lw_V q107 q109 qs2 q13 q110) rfl rfl rfl (by decide +kernel) ⟨Nat.le_of_ble_eq_true rfl, Nat.le_of_ble_eq_true rfl⟩) rfl hl.1 rfl (Nat.le_of_ble_eq_true rfl) dX0_border_16 ⟨Nat.zero_le _, Nat.zero_le _⟩ (fun u_1 H locs hp_1 w => ?_)
      obtain ⟨bl2, ab2, fl2⟩ := u_1
      have hcod : om_cod pt k bl2 ab2 fl2 := hp_1
      have hI2 : om_I tx mt pt bl2 ab2 fl2 n k z (nI 1) := ⟨hn, hk, hz, hmt, Or.inr ⟨rfl, hcod⟩⟩
      have w : om_H D A s (om_X h d tx mt pt bl2 ab2 fl2 (nI n) (nI k) (nI z) (nI 1)) H locs := w
      refine lv_aload_n hx hb dX0_border_19 rfl (lv_at hl 0 rfl) ?_
      refine xg_fl C w dX0_border_20 ?_
      refine lv_iload_n hx hb dX0_border_23 rfl (lv_at hl 1 rfl) ?_
      refine xl_fl C w (i := y) (by omega) dX0_border_24 ?_
      refine lv_topi (fun y_ ey_ => ?_)
      have ey_ : y_ = nI (om_wd pt y) := ey_.trans (hcod.2.2 y (by omega) c_10)
      subst ey_
      exact om_iret (tx, mt, pt, bl2, ab2, fl2, n, k, z, nI 1) C hr hlocks w ⟨hI2, ⟨rfl, rfl, rfl, rfl, om_rng_g (good := fun p => nI (om_wd pt p)) hy (by omega) (by omega)⟩⟩ dX0_border_25
    · refine lv_iconst (v := (-1)) hx hb dX0_border_13 (by decide) ?_
      exact om_iret (tx, mt, pt, bl, ab, fl, n, k, z, cd) C hr hlocks w ⟨hI, ⟨rfl, rfl, rfl, rfl, om_rng_h hy (by omega)⟩⟩ dX0_border_14
set_option maxHeartbeats 4000000 in
set_option maxRecDepth 100000 in
/-- period -/
theorem mX_period (l : Launch) (D : va_G) (d : ClassId) (h : Nat → Nat) (tx mt pt bl ab fl : Nat → Int32) (n k z : Nat) (cd : Int32) (hI : om_I tx mt pt bl ab fl n k z cd) : om_Mi l yX0_period cX0_period 1 (some .int) { frames := 3, cells := 0, slots := 0, locals := 90 } D d [.ref (h 0)] (om_X h d tx mt pt bl ab fl (nI n) (nI k) (nI z) cd) (fun (r : Int32) (u : om_S) => om_po (fun tx2 pt2 n2 k2 => tx2 = tx ∧ pt2 = pt ∧ n2 = n ∧ k2 = k ∧ r = nI (k - om_wd pt k)) u) (om_Xu h d) := by
  intro sz
  refine om_enter (by decide) (Nat.le_of_ble_eq_true rfl) ?_
  intro p e s m below meth c ls C hr hlocks w hl
  generalize va_A (om_X h d tx mt pt bl ab fl (nI n) (nI k) (nI z) cd) sz = A at C w ⊢
  have C : om_C p m c cX0_period 1 s _ RX0 D d A := C
  have hx := C.1.1
  have hb := C.1.2.1
  have hl : lv_has ls 1 [(0, .ref (h 0))] := hl
  obtain ⟨hn, hk, hz, hmt, hc⟩ := id hI
  refine lv_aload_n hx hb dX0_period_0 rfl (lv_at hl 0 rfl) ?_
  refine xg_siz C w dX0_period_1 ?_
  refine om_if_ne (tgt := 9) hx hb dX0_period_4 (by decide) (by omega) (fun c_4 => ?_) (fun c_4 => ?_)
  · refine lv_aload_n hx hb dX0_period_9 rfl (lv_at hl 0 rfl) ?_
    refine om_callv (Wr := []) (As := []) (rest := []) C w (mX_code l D d h tx mt pt bl ab fl (nI n) (nI z) cd k hk hc) [0, 1, 2, 3, 4, 5, 6] [] rfl rfl rfl rfl (by decide) rfl rfl (cwV 0 C.1.2.2.2.2 (lw_V q107 q109 qs2 q13 q110) rfl rfl rfl (by decide +kernel) ⟨Nat.le_of_ble_eq_true rfl, Nat.le_of_ble_eq_true rfl⟩) rfl hl.1 rfl (Nat.le_of_ble_eq_true rfl) dX0_period_10 ⟨Nat.zero_le _, Nat.zero_le _⟩ (fun u_1 H locs hp_1 w => ?_)
    obtain ⟨bl2, ab2, fl2⟩ := u_1
    have hcod : om_cod pt k bl2 ab2 fl2 := hp_1
    have hI2 : om_I tx mt pt bl2 ab2 fl2 n k z (nI 1) := ⟨hn, hk, hz, hmt, Or.inr ⟨rfl, hcod⟩⟩
    have w : om_H D A s (om_X h d tx mt pt bl2 ab2 fl2 (nI n) (nI k) (nI z) (nI 1)) H locs := w
    refine lv_aload_n hx hb dX0_period_13 rfl (lv_at hl 0 rfl) ?_
    refine xg_siz C w dX0_period_14 ?_
    refine lv_aload_n hx hb dX0_period_17 rfl (lv_at hl 0 rfl) ?_
    refine xg_fl C w dX0_period_18 ?_
    refine lv_aload_n hx hb dX0_period_21 rfl (lv_at hl 0 rfl) ?_
    refine xg_siz C w dX0_period_22 ?_
    refine xl_fl C w (i := k) (by omega) dX0_period_25 ?_
    refine lv_topi (fun y_ ey_ => ?_)
    have ey_ : y_ = nI (om_wd pt k) := ey_.trans (hcod.2.2 k c_4 (Nat.le_refl k))
    subst ey_
    have hwl := om_wd_le pt k
    refine om_isub hx hb (by omega) dX0_period_26 ?_
    exact om_iret (tx, mt, pt, bl2, ab2, fl2, n, k, z, nI 1) C hr hlocks w ⟨hI2, ⟨rfl, rfl, rfl, rfl, rfl⟩⟩ dX0_period_27
  · refine lv_iconst (v := nI 0) hx hb dX0_period_7 (by decide) ?_
    exact om_iret (tx, mt, pt, bl, ab, fl, n, k, z, cd) C hr hlocks w ⟨hI, ⟨rfl, rfl, rfl, rfl, (by rw [c_4, Nat.zero_sub])⟩⟩ dX0_period_8
set_option maxHeartbeats 4000000 in
set_option maxRecDepth 100000 in
/-- rank -/
theorem mX_rank (l : Launch) (D : va_G) (d : ClassId) (h : Nat → Nat) (tx mt pt bl ab fl : Nat → Int32) (n k z : Nat) (cd : Int32) (q : Int32) (hI : om_I tx mt pt bl ab fl n k z cd) : om_Mi l yX0_rank cX0_rank 5 (some .int) { frames := 0, cells := 0, slots := 0, locals := 0 } D d [.ref (h 0), .int q] (om_X h d tx mt pt bl ab fl (nI n) (nI k) (nI z) cd) (fun (r : Int32) (u : om_S) => om_po (fun tx2 pt2 n2 k2 => tx2 = tx ∧ pt2 = pt ∧ n2 = n ∧ k2 = k ∧ r = om_rng 0 ((k : Int) - 1) q.toInt (-1) (fun p => nI (om_rk pt p p))) u) (om_Xu h d) := by
  intro sz
  refine om_enter (by decide) (Nat.le_of_ble_eq_true rfl) ?_
  intro p e s m below meth c ls C hr hlocks w hl
  generalize va_A (om_X h d tx mt pt bl ab fl (nI n) (nI k) (nI z) cd) sz = A at C w ⊢
  have C : om_C p m c cX0_rank 5 s _ RX0 D d A := C
  have hx := C.1.1
  have hb := C.1.2.1
  have hl : lv_has ls 5 [(0, .ref (h 0)), (1, .int q)] := hl
  obtain ⟨hn, hk, hz, hmt, hc⟩ := id hI
  refine lv_iload_n hx hb dX0_rank_0 rfl (lv_at hl 1 rfl) ?_
  refine lv_if_lt (tgt := 12) hx hb dX0_rank_1 (by decide) (fun c_1 => ?_) (fun c_1 => ?_)
  · refine lv_iconst (v := (-1)) hx hb dX0_rank_12 (by decide) ?_
    exact om_iret (tx, mt, pt, bl, ab, fl, n, k, z, cd) C hr hlocks w ⟨hI, ⟨rfl, rfl, rfl, rfl, om_rng_b (Or.inl (om_neg c_1))⟩⟩ dX0_rank_13
  · obtain ⟨y, hy, rfl⟩ := nI_of c_1
    refine lv_iload_n hx hb dX0_rank_4 rfl (lv_at hl 1 rfl) ?_
    refine lv_aload_n hx hb dX0_rank_5 rfl (lv_at hl 0 rfl) ?_
    refine xg_siz C w dX0_rank_6 ?_
    refine om_icmp_lt (tgt := 14) hx hb dX0_rank_9 (by decide) (by omega) (by omega) (fun c_9 => ?_) (fun c_9 => ?_)
    · refine lv_iconst (v := nI 0) hx hb dX0_rank_14 (by decide) ?_
      refine lv_istore_n (lv' := [(2, .int (nI 0)), (0, .ref (h 0)), (1, .int (nI y))]) hx hb dX0_rank_15 rfl hl (by decide) rfl (fun ls hl => ?_)
      refine lv_iconst (v := nI 0) hx hb dX0_rank_16 (by decide) ?_
      refine lv_istore_n (lv' := [(3, .int (nI 0)), (2, .int (nI 0)), (0, .ref (h 0)), (1, .int (nI y))]) hx hb dX0_rank_17 rfl hl (by decide) rfl (fun ls hl => ?_)
      refine lv_iconst (v := nI 0) hx hb dX0_rank_18 (by decide) ?_
      refine lv_istore (lv' := [(4, .int (nI 0)), (3, .int (nI 0)), (2, .int (nI 0)), (0, .ref (h 0)), (1, .int (nI y))]) hx hb dX0_rank_19 hl (by decide) rfl (fun ls hl => ?_)
      refine om_loop3 (α := Nat) (β := Nat) (γ := Nat) (I := fun x ls_ sm H locs ls => (x ≤ y) ∧ (ls_ + 16 * sm = om_rk pt y x) ∧ om_H D A s (om_X h d tx mt pt bl ab fl (nI n) (nI k) (nI z) cd) H locs ∧ lv_has ls 5 [(0, .ref (h 0)), (1, .int (nI y)), (2, .int (nI ls_)), (3, .int (nI sm)), (4, .int (nI x))]) (μ := fun x ls_ sm => y - x) ?_ 0 0 0 _ _ _ ⟨Nat.zero_le _, rfl, w, lv_sub hl [3, 4, 2, 1, 0] rfl⟩
      intro x ls_ sm H locs ls hI ih_21
      obtain ⟨hxn, hrk, w, hl⟩ := hI
      refine lv_iload hx hb dX0_rank_21 (lv_at hl 4 rfl) ?_
      refine lv_iload_n hx hb dX0_rank_23 rfl (lv_at hl 1 rfl) ?_
      refine om_icmp_ge (tgt := 74) hx hb dX0_rank_24 (by decide) (by omega) (by omega) (fun c_24 => ?_) (fun c_24 => ?_)
      · refine lv_iload_n hx hb dX0_rank_74 rfl (lv_at hl 2 rfl) ?_
        refine lv_bipush (v := nI 16) hx hb dX0_rank_75 (by decide) ?_
        refine lv_iload_n hx hb dX0_rank_77 rfl (lv_at hl 3 rfl) ?_
        refine om_imul hx hb dX0_rank_78 ?_
        refine om_iadd hx hb dX0_rank_79 ?_
        have ez : nI (ls_ + 16 * sm) = nI (om_rk pt y y) := by rw [hrk, show x = y by omega]
        exact om_iret (tx, mt, pt, bl, ab, fl, n, k, z, cd) C hr hlocks w ⟨hI, ⟨rfl, rfl, rfl, rfl, ez.trans (om_rng_g (good := fun p => nI (om_rk pt p p)) hy (by omega) (by omega))⟩⟩ dX0_rank_80
      · refine lv_aload_n hx hb dX0_rank_27 rfl (lv_at hl 0 rfl) ?_
        refine xg_pt C w dX0_rank_28 ?_
        refine lv_iload hx hb dX0_rank_31 (lv_at hl 4 rfl) ?_
        refine xl_pt C w (i := x) (by omega) dX0_rank_33 ?_
        refine lv_aload_n hx hb dX0_rank_34 rfl (lv_at hl 0 rfl) ?_
        refine xg_pt C w dX0_rank_35 ?_
        refine lv_iload_n hx hb dX0_rank_38 rfl (lv_at hl 1 rfl) ?_
        refine xl_pt C w (i := y) (by omega) dX0_rank_39 ?_
        refine lv_icmp_ge (tgt := 49) hx hb dX0_rank_40 (by decide) (fun c_40 => ?_) (fun c_40 => ?_)
        · have c_40 := om_nlt c_40
          refine lv_aload_n hx hb dX0_rank_49 rfl (lv_at hl 0 rfl) ?_
          refine xg_pt C w dX0_rank_50 ?_
          refine lv_iload hx hb dX0_rank_53 (lv_at hl 4 rfl) ?_
          refine xl_pt C w (i := x) (by omega) dX0_rank_55 ?_
          refine lv_aload_n hx hb dX0_rank_56 rfl (lv_at hl 0 rfl) ?_
          refine xg_pt C w dX0_rank_57 ?_
          refine lv_iload_n hx hb dX0_rank_60 rfl (lv_at hl 1 rfl) ?_
          refine xl_pt C w (i := y) (by omega) dX0_rank_61 ?_
          refine lv_icmp_ne (tgt := 68) hx hb dX0_rank_62 (by decide) (fun c_62 => ?_) (fun c_62 => ?_)
          · have hr2 : ls_ + 16 * sm = om_rk pt y (x + 1) := by rw [om_rk_3 c_40 c_62]; exact hrk
            refine lv_iinc (v := nI (x + 1)) (lv' := [(4, .int (nI (x + 1))), (0, .ref (h 0)), (1, .int (nI y)), (2, .int (nI ls_)), (3, .int (nI sm))]) hx hb dX0_rank_68 hl (k := 4) rfl (nI_add _ 1) (by decide) rfl (fun ls hl => ?_)
            refine lv_goto (tgt := 21) hx hb dX0_rank_71 (by decide) ?_
            exact ih_21 (x + 1) ls_ sm _ _ _ (by first | omega | (dsimp only; omega)) ⟨by omega, hr2, w, lv_sub hl [1, 2, 3, 4, 0] rfl⟩
          · have hr2 : ls_ + 16 * (sm + 1) = om_rk pt y (x + 1) := by rw [om_rk_2 c_40 c_62]; omega
            refine lv_iinc (v := nI (sm + 1)) (lv' := [(3, .int (nI (sm + 1))), (0, .ref (h 0)), (1, .int (nI y)), (2, .int (nI ls_)), (4, .int (nI x))]) hx hb dX0_rank_65 hl (k := 3) rfl (nI_add _ 1) (by decide) rfl (fun ls hl => ?_)
            refine lv_iinc (v := nI (x + 1)) (lv' := [(4, .int (nI (x + 1))), (3, .int (nI (sm + 1))), (0, .ref (h 0)), (1, .int (nI y)), (2, .int (nI ls_))]) hx hb dX0_rank_68 hl (k := 4) rfl (nI_add _ 1) (by decide) rfl (fun ls hl => ?_)
            refine lv_goto (tgt := 21) hx hb dX0_rank_71 (by decide) ?_
            exact ih_21 (x + 1) ls_ (sm + 1) _ _ _ (by first | omega | (dsimp only; omega)) ⟨by omega, hr2, w, lv_sub hl [2, 3, 4, 1, 0] rfl⟩
        · have hr2 : ls_ + 1 + 16 * sm = om_rk pt y (x + 1) := by rw [om_rk_1 (om_nle c_40)]; omega
          refine lv_iinc (v := nI (ls_ + 1)) (lv' := [(2, .int (nI (ls_ + 1))), (0, .ref (h 0)), (1, .int (nI y)), (3, .int (nI sm)), (4, .int (nI x))]) hx hb dX0_rank_43 hl (k := 2) rfl (nI_add _ 1) (by decide) rfl (fun ls hl => ?_)
          refine lv_goto (tgt := 68) hx hb dX0_rank_46 (by decide) ?_
          refine lv_iinc (v := nI (x + 1)) (lv' := [(4, .int (nI (x + 1))), (2, .int (nI (ls_ + 1))), (0, .ref (h 0)), (1, .int (nI y)), (3, .int (nI sm))]) hx hb dX0_rank_68 hl (k := 4) rfl (nI_add _ 1) (by decide) rfl (fun ls hl => ?_)
          refine lv_goto (tgt := 21) hx hb dX0_rank_71 (by decide) ?_
          exact ih_21 (x + 1) (ls_ + 1) sm _ _ _ (by first | omega | (dsimp only; omega)) ⟨by omega, hr2, w, lv_sub hl [2, 3, 1, 4, 0] rfl⟩
    · refine lv_iconst (v := (-1)) hx hb dX0_rank_12 (by decide) ?_
      exact om_iret (tx, mt, pt, bl, ab, fl, n, k, z, cd) C hr hlocks w ⟨hI, ⟨rfl, rfl, rfl, rfl, om_rng_h hy (by omega)⟩⟩ dX0_rank_13
set_option maxHeartbeats 4000000 in
set_option maxRecDepth 100000 in
/-- disjoint -/
theorem mX_disjoint (l : Launch) (D : va_G) (d : ClassId) (h : Nat → Nat) (tx mt pt bl ab fl : Nat → Int32) (n k z : Nat) (cd : Int32) (hI : om_I tx mt pt bl ab fl n k z cd) : om_Mi l yX0_disjoint cX0_disjoint 4 (some .int) { frames := 4, cells := 0, slots := 0, locals := 120 } D d [.ref (h 0)] (om_X h d tx mt pt bl ab fl (nI n) (nI k) (nI z) cd) (fun (r : Int32) (u : om_S) => om_po (fun tx2 pt2 n2 k2 => tx2 = tx ∧ pt2 = pt ∧ n2 = n ∧ k2 = k ∧ r = nI (om_gs (om_ed tx pt k) k n).1) u) (om_Xu h d) := by
  intro sz
  refine om_enter (by decide) (Nat.le_of_ble_eq_true rfl) ?_
  intro p e s m below meth c ls C hr hlocks w hl
  generalize va_A (om_X h d tx mt pt bl ab fl (nI n) (nI k) (nI z) cd) sz = A at C w ⊢
  have C : om_C p m c cX0_disjoint 4 s _ RX0 D d A := C
  have hx := C.1.1
  have hb := C.1.2.1
  have hl : lv_has ls 4 [(0, .ref (h 0))] := hl
  obtain ⟨hn, hk, hz, hmt, hc⟩ := id hI
  refine lv_aload_n hx hb dX0_disjoint_0 rfl (lv_at hl 0 rfl) ?_
  refine om_callv (Wr := []) (As := []) (rest := []) C w (mX_refresh l D d h tx mt pt bl ab fl cd n k z hn hk hz hmt hc) [0, 1, 2, 3, 4, 5, 6] [] rfl rfl rfl rfl (by decide) rfl rfl (cwV 0 C.1.2.2.2.2 (lw_V q103 q105 qs1 q13 q106) rfl rfl rfl (by decide +kernel) ⟨Nat.le_of_ble_eq_true rfl, Nat.le_of_ble_eq_true rfl⟩) rfl hl.1 rfl (Nat.le_of_ble_eq_true rfl) dX0_disjoint_1 ⟨Nat.zero_le _, Nat.zero_le _⟩ (fun u_1 H locs hp_1 w => ?_)
  obtain ⟨mt2, bl2, ab2, fl2⟩ := u_1
  obtain ⟨hcod, hm⟩ := hp_1
  have hcod : om_cod pt k bl2 ab2 fl2 := hcod
  have hm : ∀ t, t < n → mt2 t = nI (om_mt tx pt k t) := hm
  have hI2 : om_I tx mt2 pt bl2 ab2 fl2 n k n (nI 1) := ⟨hn, hk, Nat.le_refl n, hm, Or.inr ⟨rfl, hcod⟩⟩
  have w : om_H D A s (om_X h d tx mt2 pt bl2 ab2 fl2 (nI n) (nI k) (nI n) (nI 1)) H locs := w
  refine lv_iconst (v := nI 0) hx hb dX0_disjoint_4 (by decide) ?_
  refine lv_istore_n (lv' := [(1, .int (nI 0)), (0, .ref (h 0))]) hx hb dX0_disjoint_5 rfl hl (by decide) rfl (fun ls hl => ?_)
  refine lv_iconst (v := nI 0) hx hb dX0_disjoint_6 (by decide) ?_
  refine lv_istore_n (lv' := [(2, .int (nI 0)), (1, .int (nI 0)), (0, .ref (h 0))]) hx hb dX0_disjoint_7 rfl hl (by decide) rfl (fun ls hl => ?_)
  refine lv_iconst (v := nI 0) hx hb dX0_disjoint_8 (by decide) ?_
  refine lv_istore_n (lv' := [(3, .int (nI 0)), (2, .int (nI 0)), (1, .int (nI 0)), (0, .ref (h 0))]) hx hb dX0_disjoint_9 rfl hl (by decide) rfl (fun ls hl => ?_)
  refine om_loop3 (α := Nat) (β := Nat) (γ := Nat) (I := fun x sm fr H locs ls => (x ≤ n) ∧ (om_gs (om_ed tx pt k) k x = (sm, fr)) ∧ om_H D A s (om_X h d tx mt2 pt bl2 ab2 fl2 (nI n) (nI k) (nI n) (nI 1)) H locs ∧ lv_has ls 4 [(0, .ref (h 0)), (1, .int (nI sm)), (2, .int (nI fr)), (3, .int (nI x))]) (μ := fun x sm fr => n - x) ?_ 0 0 0 _ _ _ ⟨Nat.zero_le _, rfl, w, lv_sub hl [3, 2, 1, 0] rfl⟩
  intro x sm fr H locs ls hI ih_10
  obtain ⟨hxn, hgs, w, hl⟩ := hI
  refine lv_iload_n hx hb dX0_disjoint_10 rfl (lv_at hl 3 rfl) ?_
  refine lv_aload_n hx hb dX0_disjoint_11 rfl (lv_at hl 0 rfl) ?_
  refine xg_len C w dX0_disjoint_12 ?_
  refine om_icmp_ge (tgt := 51) hx hb dX0_disjoint_15 (by decide) (by omega) (by omega) (fun c_15 => ?_) (fun c_15 => ?_)
  · refine lv_iload_n hx hb dX0_disjoint_51 rfl (lv_at hl 1 rfl) ?_
    exact om_iret (tx, mt2, pt, bl2, ab2, fl2, n, k, n, nI 1) C hr hlocks w ⟨hI2, ⟨rfl, rfl, rfl, rfl, (by rw [show n = x by omega, hgs])⟩⟩ dX0_disjoint_52
  · refine lv_aload_n hx hb dX0_disjoint_18 rfl (lv_at hl 0 rfl) ?_
    refine lv_iload_n hx hb dX0_disjoint_19 rfl (lv_at hl 3 rfl) ?_
    refine om_calli (Wr := []) (As := [.int (nI x)]) (rest := []) C w (mX_endsAt l D d h tx mt2 pt bl2 ab2 fl2 (nI n) (nI n) (nI 1) k x hk (by omega)) [0, 1, 2, 3, 4, 5, 6] [] rfl rfl rfl rfl (by decide) rfl rfl (cwV 1 C.1.2.2.2.2 (lw_V q127 q129 qs7 q13 q130) rfl rfl rfl (by decide +kernel) ⟨Nat.le_of_ble_eq_true rfl, Nat.le_of_ble_eq_true rfl⟩) rfl hl.1 rfl (Nat.le_of_ble_eq_true rfl) dX0_disjoint_20 ⟨Nat.zero_le _, Nat.zero_le _⟩ (fun r_3 u_3 H locs hp_3 w => ?_)
    have hp_3 : r_3 = bI (decide (0 < k) && decide (mt2 x = nI k)) := hp_3
    rw [om_ends (hm x (by omega)) hk] at hp_3
    subst hp_3
    have w : om_H D A s (om_X h d tx mt2 pt bl2 ab2 fl2 (nI n) (nI k) (nI n) (nI 1)) H locs := w
    refine om_if_eqB (tgt := 45) hx hb dX0_disjoint_23 (by decide) (fun c_23 => ?_) (fun c_23 => ?_)
    · have hg2 : om_gs (om_ed tx pt k) k (x + 1) = (sm, fr) := by rw [om_gs_f (fun z => by rw [c_23] at z; cases z.1)]; exact hgs
      refine lv_iinc (v := nI (x + 1)) (lv' := [(3, .int (nI (x + 1))), (0, .ref (h 0)), (1, .int (nI sm)), (2, .int (nI fr))]) hx hb dX0_disjoint_45 hl (k := 3) rfl (nI_add _ 1) (by decide) rfl (fun ls hl => ?_)
      refine lv_goto (tgt := 10) hx hb dX0_disjoint_48 (by decide) ?_
      exact ih_10 (x + 1) sm fr _ _ _ (by first | omega | (dsimp only; omega)) ⟨by omega, hg2, w, lv_sub hl [1, 2, 3, 0] rfl⟩
    · have hkx := (om_ed_iff.mp c_23).2.1
      have hfr : fr ≤ x := by have := (om_gs_le (om_ed tx pt k) k x).2; rw [hgs] at this; exact this
      refine lv_iload_n hx hb dX0_disjoint_26 rfl (lv_at hl 3 rfl) ?_
      refine lv_aload_n hx hb dX0_disjoint_27 rfl (lv_at hl 0 rfl) ?_
      refine xg_siz C w dX0_disjoint_28 ?_
      refine lv_isub hx hb dX0_disjoint_31 ?_
      refine lv_iconst (v := nI 1) hx hb dX0_disjoint_32 (by decide) ?_
      refine lv_iadd hx hb dX0_disjoint_33 ?_
      refine lv_topi (fun y_ ey_ => ?_)
      have ey_ : y_ = nI (x + 1 - k) := ey_.trans (om_sub1 hkx)
      subst ey_
      refine lv_iload_n hx hb dX0_disjoint_34 rfl (lv_at hl 2 rfl) ?_
      refine om_icmp_lt (tgt := 45) hx hb dX0_disjoint_35 (by decide) (by omega) (by omega) (fun c_35 => ?_) (fun c_35 => ?_)
      · have hg2 : om_gs (om_ed tx pt k) k (x + 1) = (sm, fr) := by rw [om_gs_f (fun z => by have z := z.2; rw [hgs] at z; dsimp only at z; omega)]; exact hgs
        refine lv_iinc (v := nI (x + 1)) (lv' := [(3, .int (nI (x + 1))), (0, .ref (h 0)), (1, .int (nI sm)), (2, .int (nI fr))]) hx hb dX0_disjoint_45 hl (k := 3) rfl (nI_add _ 1) (by decide) rfl (fun ls hl => ?_)
        refine lv_goto (tgt := 10) hx hb dX0_disjoint_48 (by decide) ?_
        exact ih_10 (x + 1) sm fr _ _ _ (by first | omega | (dsimp only; omega)) ⟨by omega, hg2, w, lv_sub hl [1, 2, 3, 0] rfl⟩
      · have hg2 : om_gs (om_ed tx pt k) k (x + 1) = (sm + 1, x + 1) := by rw [om_gs_t c_23 (by rw [hgs]; exact c_35), hgs]
        refine lv_iinc (v := nI (sm + 1)) (lv' := [(1, .int (nI (sm + 1))), (0, .ref (h 0)), (2, .int (nI fr)), (3, .int (nI x))]) hx hb dX0_disjoint_38 hl (k := 1) rfl (nI_add _ 1) (by decide) rfl (fun ls hl => ?_)
        refine lv_iload_n hx hb dX0_disjoint_41 rfl (lv_at hl 3 rfl) ?_
        refine lv_iconst (v := nI 1) hx hb dX0_disjoint_42 (by decide) ?_
        refine om_iadd hx hb dX0_disjoint_43 ?_
        refine lv_istore_n (lv' := [(2, .int (nI (x + 1))), (1, .int (nI (sm + 1))), (0, .ref (h 0)), (3, .int (nI x))]) hx hb dX0_disjoint_44 rfl hl (by decide) rfl (fun ls hl => ?_)
        refine lv_iinc (v := nI (x + 1)) (lv' := [(3, .int (nI (x + 1))), (2, .int (nI (x + 1))), (1, .int (nI (sm + 1))), (0, .ref (h 0))]) hx hb dX0_disjoint_45 hl (k := 3) rfl (nI_add _ 1) (by decide) rfl (fun ls hl => ?_)
        refine lv_goto (tgt := 10) hx hb dX0_disjoint_48 (by decide) ?_
        exact ih_10 (x + 1) (sm + 1) (x + 1) _ _ _ (by first | omega | (dsimp only; omega)) ⟨by omega, hg2, w, lv_sub hl [3, 2, 1, 0] rfl⟩
end
section
/-! rows for the model's walk -/
theorem om_ord_l {a b : Int32} (h : ¬ 0 ≤ om_ord a b) : a < b := by
  unfold om_ord at h
  by_cases q : a < b
  · exact q
  · rw [if_neg q] at h
    by_cases q2 : b < a
    · rw [if_pos q2] at h; exact absurd (by decide) h
    · rw [if_neg q2] at h; exact absurd (by decide) h
theorem om_ord_g {a b : Int32} (h : 0 ≤ om_ord a b) : ¬ a < b := by
  intro q
  unfold om_ord at h
  rw [if_pos q] at h
  exact absurd h (by decide)
theorem om_ord_0 {a b : Int32} (h : om_ord a b = 0) : a = b := by
  unfold om_ord at h
  by_cases q : a < b
  · rw [if_pos q] at h; exact absurd h (by decide)
  · rw [if_neg q] at h
    by_cases q2 : b < a
    · rw [if_pos q2] at h; exact absurd h (by decide)
    · rw [Int32.lt_iff_toInt_lt] at q q2
      exact Int32.toInt_inj.mp (by omega)
theorem om_ord_n {a b : Int32} (h : ¬ om_ord a b = 0) : ¬ a = b := by
  intro e
  subst e
  unfold om_ord at h
  rw [if_neg (om_irr a), if_neg (om_irr a)] at h
  exact h (by decide)
theorem om_m1s (a : Int32) : a + Int32.ofInt (-1) = a - nI 1 := by
  have e1 : Int32.ofInt (-1) = -1 := by decide
  have e2 : nI 1 = 1 := by decide
  rw [e1, e2]
  grind
theorem om_lt0 {x : Nat} (hx : x < 2 ^ 30) : nI x - nI 1 < 0 ↔ x = 0 := by
  rw [Int32.lt_iff_toInt_lt, pk_sub_toInt hx (by omega), Int32.toInt_zero]
  omega
theorem om_ocr {vl : Nat → Int32} {n k x : Nat} (hx : x < 2 ^ 31) : om_rng 0 (2 ^ 31) (nI x).toInt (nI 0) (fun t => bI (om_oc vl (om_pt vl) n k t)) = bI (om_oc vl (om_pt vl) n k x) := (om_rng_g (good := fun t => bI (om_oc vl (om_pt vl) n k t)) hx (by omega) (by omega)).symm
theorem om_ap_0 (f g : Nat → Int32) : om_ap f g 0 = true := rfl
theorem om_bs_step {f : Nat → Bool} {n k lo v : Nat} {B : Nat → Nat} (h : om_bs f n k B (lo + 1)) (hl : lo < n) (hk : f lo = true → 0 < k) (h1 : f lo = false → v = B (lo + 1)) (h2 : f lo = true → (B (lo + 1) < 1 + B (lo + k) → v = 1 + B (lo + k)) ∧ (1 + B (lo + k) ≤ B (lo + 1) → v = B (lo + 1))) : om_bs f n k (fun t => if t = lo then v else B t) lo := by
  obtain ⟨a1, a2, a3⟩ := h
  refine ⟨fun q hq => ?_, fun q q1 q2 q3 => ?_, fun q q1 q2 q3 => ?_⟩
  · show (if q = lo then v else B q) = 0
    rw [if_neg (by omega)]; exact a1 q hq
  · show (if q = lo then v else B q) = (if q + 1 = lo then v else B (q + 1))
    rw [if_neg (show ¬ q + 1 = lo by omega)]
    by_cases e : q = lo
    · subst e
      rw [if_pos rfl]; exact h1 q3
    · rw [if_neg e]; exact a2 q (by omega) q2 q3
  · show ((if q + 1 = lo then v else B (q + 1)) < 1 + (if q + k = lo then v else B (q + k)) → (if q = lo then v else B q) = 1 + (if q + k = lo then v else B (q + k))) ∧ (1 + (if q + k = lo then v else B (q + k)) ≤ (if q + 1 = lo then v else B (q + 1)) → (if q = lo then v else B q) = (if q + 1 = lo then v else B (q + 1)))
    rw [if_neg (show ¬ q + 1 = lo by omega)]
    by_cases e : q = lo
    · subst e
      have := hk q3
      rw [if_pos rfl, if_neg (show ¬ q + k = q by omega)]; exact h2 q3
    · rw [if_neg e, if_neg (show ¬ q + k = lo by omega)]; exact a3 q (by omega) q2 q3
section OM4
variable {p : Program} {l : Launch} {e : Env} {R : Room} {s : State} {m : MethodId} {args : Array Value} {below : List Frame} {meth : Method} {c : Code} {H : Heap} {locs : List Loc} {cells slots : Nat} {Q : State → Prop}
variable {cc : ByteArray} {nL pc : Nat} {ls : Array Slot} {rest : List Value}
theorem om_idiv (hx : p.tables.exec = Jvm.exec) (hb : c.code = cc) {a b : Nat} (ha : a < 2 ^ 31) (h0 : 0 < b) (hb2 : b < 2 ^ 31) (hdg : decode cc pc = .ok (.idiv, 1)) (k : W p l e R s m args below meth c H locs cells slots Q (F0 m (pc + 1) ls (.int (nI (a / b)) :: rest))) : W p l e R s m args below meth c H locs cells slots Q (F0 m pc ls (.int (nI b) :: .int (nI a) :: rest)) :=
  lv_idiv hx hb hdg (nI_ne0 h0 hb2) (by rw [pk_div ha h0 hb2]; exact k)
theorem om_irem (hx : p.tables.exec = Jvm.exec) (hb : c.code = cc) {a b : Nat} (ha : a < 2 ^ 31) (h0 : 0 < b) (hb2 : b < 2 ^ 31) (hdg : decode cc pc = .ok (.irem, 1)) (k : W p l e R s m args below meth c H locs cells slots Q (F0 m (pc + 1) ls (.int (nI (a % b)) :: rest))) : W p l e R s m args below meth c H locs cells slots Q (F0 m pc ls (.int (nI b) :: .int (nI a) :: rest)) :=
  lv_irem hx hb hdg (nI_ne0 h0 hb2) (by rw [pk_rem ha h0 hb2]; exact k)
end OM4
end
section
set_option maxHeartbeats 4000000 in
set_option maxRecDepth 100000 in
/-- order(i, j) -/
theorem mY_order (l : Launch) (D : va_G) (d : ClassId) (h : Nat → Nat) (vl bs : Nat → Int32) (len siz : Int32) (i j : Nat) (hi : i < 70) (hj : j < 70) : om_Mi l yX1_order cX1_order 3 (some .int) { frames := 0, cells := 0, slots := 0, locals := 0 } D d [.ref (h 0), .int (nI i), .int (nI j)] (om_Y h d vl bs len siz) (fun (r : Int32) (_ : Unit) => r = om_ord (vl i) (vl j)) (fun _ => om_Y h d vl bs len siz) := by
  intro sz
  refine om_enter (by decide) (Nat.le_of_ble_eq_true rfl) ?_
  intro p e s m below meth c ls C hr hlocks w hl
  generalize va_A (om_Y h d vl bs len siz) sz = A at C w ⊢
  have C : om_C p m c cX1_order 3 s _ RX1 D d A := C
  have hx := C.1.1
  have hb := C.1.2.1
  have hl : lv_has ls 3 [(0, .ref (h 0)), (1, .int (nI i)), (2, .int (nI j))] := hl
  refine lv_aload_n hx hb dX1_order_0 rfl (lv_at hl 0 rfl) ?_
  refine yg_vl C w dX1_order_1 ?_
  refine lv_iload_n hx hb dX1_order_4 rfl (lv_at hl 1 rfl) ?_
  refine yl_vl C w (i := i) (by omega) dX1_order_5 ?_
  refine lv_aload_n hx hb dX1_order_6 rfl (lv_at hl 0 rfl) ?_
  refine yg_vl C w dX1_order_7 ?_
  refine lv_iload_n hx hb dX1_order_10 rfl (lv_at hl 2 rfl) ?_
  refine yl_vl C w (i := j) (by omega) dX1_order_11 ?_
  refine lv_icmp_ge (tgt := 19) hx hb dX1_order_12 (by decide) (fun c_12 => ?_) (fun c_12 => ?_)
  · refine lv_aload_n hx hb dX1_order_19 rfl (lv_at hl 0 rfl) ?_
    refine yg_vl C w dX1_order_20 ?_
    refine lv_iload_n hx hb dX1_order_23 rfl (lv_at hl 1 rfl) ?_
    refine yl_vl C w (i := i) (by omega) dX1_order_24 ?_
    refine lv_aload_n hx hb dX1_order_25 rfl (lv_at hl 0 rfl) ?_
    refine yg_vl C w dX1_order_26 ?_
    refine lv_iload_n hx hb dX1_order_29 rfl (lv_at hl 2 rfl) ?_
    refine yl_vl C w (i := j) (by omega) dX1_order_30 ?_
    refine lv_icmp_le (tgt := 38) hx hb dX1_order_31 (by decide) (fun c_31 => ?_) (fun c_31 => ?_)
    · refine lv_iconst (v := nI 0) hx hb dX1_order_38 (by decide) ?_
      exact om_iret () C hr hlocks w (by unfold om_ord; rw [if_neg (om_nlt c_12), if_neg (om_nlt c_31)]) dX1_order_39
    · refine lv_iconst (v := nI 1) hx hb dX1_order_34 (by decide) ?_
      refine lv_goto (tgt := 39) hx hb dX1_order_35 (by decide) ?_
      exact om_iret () C hr hlocks w (by unfold om_ord; rw [if_neg (om_nlt c_12), if_pos (om_nle c_31)]) dX1_order_39
  · refine lv_iconst (v := (-1)) hx hb dX1_order_15 (by decide) ?_
    refine lv_goto (tgt := 39) hx hb dX1_order_16 (by decide) ?_
    exact om_iret () C hr hlocks w ((if_pos (om_nle c_12)).symm) dX1_order_39
set_option maxHeartbeats 4000000 in
set_option maxRecDepth 100000 in
/-- alike(a, b, x) -/
theorem mY_alike (l : Launch) (D : va_G) (d : ClassId) (h : Nat → Nat) (vl bs : Nat → Int32) (len siz : Int32) (a b x : Nat) (ha : a + x ≤ 70) (hb2 : b + x ≤ 70) : om_Mi l yX1_alike cX1_alike 6 (some .boolean) { frames := 1, cells := 0, slots := 0, locals := 30 } D d [.ref (h 0), .int (nI a), .int (nI b), .int (nI x)] (om_Y h d vl bs len siz) (fun (r : Int32) (_ : Unit) => r = bI (om_ap (fun i => vl (a + i)) (fun i => vl (b + i)) x)) (fun _ => om_Y h d vl bs len siz) := by
  intro sz
  refine om_enter (by decide) (Nat.le_of_ble_eq_true rfl) ?_
  intro p e s m below meth c ls C hr hlocks w hl
  generalize va_A (om_Y h d vl bs len siz) sz = A at C w ⊢
  have C : om_C p m c cX1_alike 6 s _ RX1 D d A := C
  have hx := C.1.1
  have hb := C.1.2.1
  have hl : lv_has ls 6 [(0, .ref (h 0)), (1, .int (nI a)), (2, .int (nI b)), (3, .int (nI x))] := hl
  refine lv_iconst (v := nI 0) hx hb dX1_alike_0 (by decide) ?_
  refine lv_istore (lv' := [(4, .int (nI 0)), (0, .ref (h 0)), (1, .int (nI a)), (2, .int (nI b)), (3, .int (nI x))]) hx hb dX1_alike_1 hl (by decide) rfl (fun ls hl => ?_)
  refine om_loop1 (α := Nat) (I := fun i H locs ls => (i ≤ x) ∧ (∀ t, t < i → ∀ u, u < t → om_ord (vl (a + t)) (vl (a + u)) = om_ord (vl (b + t)) (vl (b + u))) ∧ om_H D A s (om_Y h d vl bs len siz) H locs ∧ lv_has ls 6 [(0, .ref (h 0)), (1, .int (nI a)), (2, .int (nI b)), (3, .int (nI x)), (4, .int (nI i))]) (μ := fun i => x - i) ?_ 0 _ _ _ ⟨Nat.zero_le _, lt_0, w, lv_sub hl [1, 2, 3, 4, 0] rfl⟩
  intro i H locs ls hI ih_3
  obtain ⟨hi, hal, w, hl⟩ := hI
  refine lv_iload hx hb dX1_alike_3 (lv_at hl 4 rfl) ?_
  refine lv_iload_n hx hb dX1_alike_5 rfl (lv_at hl 3 rfl) ?_
  refine om_icmp_ge (tgt := 60) hx hb dX1_alike_6 (by decide) (by omega) (by omega) (fun c_6 => ?_) (fun c_6 => ?_)
  · refine lv_iconst (v := nI 1) hx hb dX1_alike_60 (by decide) ?_
    exact om_zret (b := true) () C hr hlocks w (congrArg bI (om_ap_iff.mpr (fun t ht => hal t (by omega))).symm) dX1_alike_61
  · refine lv_iconst (v := nI 0) hx hb dX1_alike_9 (by decide) ?_
    refine lv_istore (lv' := [(5, .int (nI 0)), (0, .ref (h 0)), (1, .int (nI a)), (2, .int (nI b)), (3, .int (nI x)), (4, .int (nI i))]) hx hb dX1_alike_10 hl (by decide) rfl (fun ls hl => ?_)
    refine om_loop1 (α := Nat) (I := fun j H locs ls => (j ≤ i) ∧ (∀ u, u < j → om_ord (vl (a + i)) (vl (a + u)) = om_ord (vl (b + i)) (vl (b + u))) ∧ om_H D A s (om_Y h d vl bs len siz) H locs ∧ lv_has ls 6 [(0, .ref (h 0)), (1, .int (nI a)), (2, .int (nI b)), (3, .int (nI x)), (4, .int (nI i)), (5, .int (nI j))]) (μ := fun j => i - j) ?_ 0 _ _ _ ⟨Nat.zero_le _, lt_0, w, lv_sub hl [1, 2, 3, 4, 5, 0] rfl⟩
    intro j H locs ls hI ih_12
    obtain ⟨hj, hin, w, hl⟩ := hI
    refine lv_iload hx hb dX1_alike_12 (lv_at hl 5 rfl) ?_
    refine lv_iload hx hb dX1_alike_14 (lv_at hl 4 rfl) ?_
    refine om_icmp_ge (tgt := 54) hx hb dX1_alike_16 (by decide) (by omega) (by omega) (fun c_16 => ?_) (fun c_16 => ?_)
    · refine lv_iinc (v := nI (i + 1)) (lv' := [(4, .int (nI (i + 1))), (0, .ref (h 0)), (1, .int (nI a)), (2, .int (nI b)), (3, .int (nI x)), (5, .int (nI j))]) hx hb dX1_alike_54 hl (k := 4) rfl (nI_add _ 1) (by decide) rfl (fun ls hl => ?_)
      refine lv_goto (tgt := 3) hx hb dX1_alike_57 (by decide) ?_
      exact ih_3 (i + 1) _ _ _ (by first | omega | (dsimp only; omega)) ⟨by omega, lt_s hal (fun u hu => hin u (by omega)), w, lv_sub hl [1, 2, 3, 4, 0] rfl⟩
    · refine lv_aload_n hx hb dX1_alike_19 rfl (lv_at hl 0 rfl) ?_
      refine lv_iload_n hx hb dX1_alike_20 rfl (lv_at hl 1 rfl) ?_
      refine lv_iload hx hb dX1_alike_21 (lv_at hl 4 rfl) ?_
      refine om_iadd hx hb dX1_alike_23 ?_
      refine lv_iload_n hx hb dX1_alike_24 rfl (lv_at hl 1 rfl) ?_
      refine lv_iload hx hb dX1_alike_25 (lv_at hl 5 rfl) ?_
      refine om_iadd hx hb dX1_alike_27 ?_
      refine om_calli (Wr := []) (As := [.int (nI (a + i)), .int (nI (a + j))]) (rest := []) C w (mY_order l D d h vl bs len siz (a + i) (a + j) (by omega) (by omega)) [0, 1, 2] [] rfl rfl rfl rfl (by decide) rfl rfl (cwV 2 C.1.2.2.2.2 (lw_V q234 q236 qs10 q14 q237) rfl rfl rfl (by decide +kernel) ⟨Nat.le_of_ble_eq_true rfl, Nat.le_of_ble_eq_true rfl⟩) rfl hl.1 rfl (Nat.le_of_ble_eq_true rfl) dX1_alike_28 ⟨Nat.zero_le _, Nat.zero_le _⟩ (fun r_3 u_3 H locs hp_3 w => ?_)
      subst hp_3
      have w : om_H D A s (om_Y h d vl bs len siz) H locs := w
      refine lv_aload_n hx hb dX1_alike_31 rfl (lv_at hl 0 rfl) ?_
      refine lv_iload_n hx hb dX1_alike_32 rfl (lv_at hl 2 rfl) ?_
      refine lv_iload hx hb dX1_alike_33 (lv_at hl 4 rfl) ?_
      refine om_iadd hx hb dX1_alike_35 ?_
      refine lv_iload_n hx hb dX1_alike_36 rfl (lv_at hl 2 rfl) ?_
      refine lv_iload hx hb dX1_alike_37 (lv_at hl 5 rfl) ?_
      refine om_iadd hx hb dX1_alike_39 ?_
      refine om_calli (Wr := []) (As := [.int (nI (b + i)), .int (nI (b + j))]) (rest := [.int (om_ord (vl (a + i)) (vl (a + j)))]) C w (mY_order l D d h vl bs len siz (b + i) (b + j) (by omega) (by omega)) [0, 1, 2] [] rfl rfl rfl rfl (by decide) rfl rfl (cwV 2 C.1.2.2.2.2 (lw_V q234 q236 qs10 q14 q237) rfl rfl rfl (by decide +kernel) ⟨Nat.le_of_ble_eq_true rfl, Nat.le_of_ble_eq_true rfl⟩) rfl hl.1 rfl (Nat.le_of_ble_eq_true rfl) dX1_alike_40 ⟨Nat.zero_le _, Nat.zero_le _⟩ (fun r_4 u_4 H locs hp_4 w => ?_)
      subst hp_4
      have w : om_H D A s (om_Y h d vl bs len siz) H locs := w
      refine lv_icmp_eq (tgt := 48) hx hb dX1_alike_43 (by decide) (fun c_43 => ?_) (fun c_43 => ?_)
      · refine lv_iinc (v := nI (j + 1)) (lv' := [(5, .int (nI (j + 1))), (0, .ref (h 0)), (1, .int (nI a)), (2, .int (nI b)), (3, .int (nI x)), (4, .int (nI i))]) hx hb dX1_alike_48 hl (k := 5) rfl (nI_add _ 1) (by decide) rfl (fun ls hl => ?_)
        refine lv_goto (tgt := 12) hx hb dX1_alike_51 (by decide) ?_
        exact ih_12 (j + 1) _ _ _ (by first | omega | (dsimp only; omega)) ⟨by omega, lt_s hin c_43, w, lv_sub hl [1, 2, 3, 4, 5, 0] rfl⟩
      · refine lv_iconst (v := nI 0) hx hb dX1_alike_46 (by decide) ?_
        exact om_zret (b := false) () C hr hlocks w (congrArg bI (om_b_f fun z => c_43 (om_ap_iff.mp z i c_6 j c_16)).symm) dX1_alike_47
set_option maxHeartbeats 4000000 in
set_option maxRecDepth 100000 in
/-- occurs(q) -/
theorem mY_occurs (l : Launch) (D : va_G) (d : ClassId) (h : Nat → Nat) (vl bs : Nat → Int32) (n k : Nat) (q : Int32) (hn : n ≤ 60) (hk : k ≤ 10) : om_Mi l yX1_occurs cX1_occurs 2 (some .boolean) { frames := 2, cells := 0, slots := 0, locals := 60 } D d [.ref (h 0), .int q] (om_Y h d vl bs (nI n) (nI k)) (fun (r : Int32) (_ : Unit) => r = om_rng 0 (2 ^ 31) q.toInt (nI 0) (fun t => bI (om_oc vl (om_pt vl) n k t))) (fun _ => om_Y h d vl bs (nI n) (nI k)) := by
  intro sz
  refine om_enter (by decide) (Nat.le_of_ble_eq_true rfl) ?_
  intro p e s m below meth c ls C hr hlocks w hl
  generalize va_A (om_Y h d vl bs (nI n) (nI k)) sz = A at C w ⊢
  have C : om_C p m c cX1_occurs 2 s _ RX1 D d A := C
  have hx := C.1.1
  have hb := C.1.2.1
  have hl : lv_has ls 2 [(0, .ref (h 0)), (1, .int q)] := hl
  refine lv_aload_n hx hb dX1_occurs_0 rfl (lv_at hl 0 rfl) ?_
  refine yg_siz C w dX1_occurs_1 ?_
  refine om_if_eq (tgt := 24) hx hb dX1_occurs_4 (by decide) (by omega) (fun c_4 => ?_) (fun c_4 => ?_)
  · refine lv_iconst (v := nI 0) hx hb dX1_occurs_24 (by decide) ?_
    have ez : nI 0 = om_rng 0 (2 ^ 31) q.toInt (nI 0) (fun t => bI (om_oc vl (om_pt vl) n k t)) := by
      unfold om_rng
      by_cases z : q.toInt < 0 ∨ 2 ^ 31 < q.toInt
      · rw [if_pos z]
      · rw [if_neg z]; show nI 0 = bI (om_oc vl (om_pt vl) n k q.toInt.toNat); rw [om_b_f (a := om_oc vl (om_pt vl) n k q.toInt.toNat) (fun z => absurd (om_oc_iff.mp z).1 (by omega))]; rfl
    exact om_zret (b := false) () C hr hlocks w ez dX1_occurs_25
  · refine lv_iload_n hx hb dX1_occurs_7 rfl (lv_at hl 1 rfl) ?_
    refine lv_if_lt (tgt := 24) hx hb dX1_occurs_8 (by decide) (fun c_8 => ?_) (fun c_8 => ?_)
    · refine lv_iconst (v := nI 0) hx hb dX1_occurs_24 (by decide) ?_
      exact om_zret (b := false) () C hr hlocks w (om_rng_b (bad := nI 0) (Or.inl (om_neg c_8))) dX1_occurs_25
    · obtain ⟨y, hy, rfl⟩ := nI_of c_8
      refine lv_iload_n hx hb dX1_occurs_11 rfl (lv_at hl 1 rfl) ?_
      refine lv_aload_n hx hb dX1_occurs_12 rfl (lv_at hl 0 rfl) ?_
      refine yg_len C w dX1_occurs_13 ?_
      refine lv_aload_n hx hb dX1_occurs_16 rfl (lv_at hl 0 rfl) ?_
      refine yg_siz C w dX1_occurs_17 ?_
      refine lv_isub hx hb dX1_occurs_20 ?_
      refine om_icmp_leD (tgt := 26) (x := y) (a := n) (b := k) hx hb dX1_occurs_21 (by decide) (by omega) (by omega) (by omega) (fun c_21 => ?_) (fun c_21 => ?_)
      · refine lv_aload_n hx hb dX1_occurs_26 rfl (lv_at hl 0 rfl) ?_
        refine lv_iload_n hx hb dX1_occurs_27 rfl (lv_at hl 1 rfl) ?_
        refine lv_bipush (v := nI 60) hx hb dX1_occurs_28 (by decide) ?_
        refine lv_aload_n hx hb dX1_occurs_30 rfl (lv_at hl 0 rfl) ?_
        refine yg_siz C w dX1_occurs_31 ?_
        refine om_calli (Wr := []) (As := [.int (nI y), .int (nI 60), .int (nI k)]) (rest := []) C w (mY_alike l D d h vl bs (nI n) (nI k) y 60 k (by omega) (by omega)) [0, 1, 2] [] rfl rfl rfl rfl (by decide) rfl rfl (cwV 3 C.1.2.2.2.2 (lw_V q230 q232 qs9 q14 q233) rfl rfl rfl (by decide +kernel) ⟨Nat.le_of_ble_eq_true rfl, Nat.le_of_ble_eq_true rfl⟩) rfl hl.1 rfl (Nat.le_of_ble_eq_true rfl) dX1_occurs_34 ⟨Nat.zero_le _, Nat.zero_le _⟩ (fun r_1 u_1 H locs hp_1 w => ?_)
        have hp_1 : r_1 = bI (om_ap (fun i => vl (y + i)) (fun i => vl (60 + i)) k) := hp_1
        subst hp_1
        have w : om_H D A s (om_Y h d vl bs (nI n) (nI k)) H locs := w
        have eo : om_oc vl (om_pt vl) n k y = om_ap (fun i => vl (y + i)) (fun i => vl (60 + i)) k := by unfold om_oc; rw [decide_eq_true c_4, decide_eq_true c_21]; rfl
        exact om_zret () C hr hlocks w ((congrArg bI eo.symm).trans (om_ocr hy).symm) dX1_occurs_37
      · refine lv_iconst (v := nI 0) hx hb dX1_occurs_24 (by decide) ?_
        exact om_zret (b := false) () C hr hlocks w ((congrArg bI (om_oc_f c_21).symm).trans (om_ocr hy).symm) dX1_occurs_25
set_option maxHeartbeats 4000000 in
set_option maxRecDepth 100000 in
/-- widest(x) -/
theorem mY_widest (l : Launch) (D : va_G) (d : ClassId) (h : Nat → Nat) (vl bs : Nat → Int32) (n k : Nat) (x : Nat) (hx1 : 1 ≤ x) (hx2 : x ≤ 10) : om_Mi l yX1_widest cX1_widest 3 (some .int) { frames := 2, cells := 0, slots := 0, locals := 60 } D d [.ref (h 0), .int (nI x)] (om_Y h d vl bs (nI n) (nI k)) (fun (r : Int32) (_ : Unit) => r = nI (om_wd (om_pt vl) x)) (fun _ => om_Y h d vl bs (nI n) (nI k)) := by
  intro sz
  refine om_enter (by decide) (Nat.le_of_ble_eq_true rfl) ?_
  intro p e s m below meth c ls C hr hlocks w hl
  generalize va_A (om_Y h d vl bs (nI n) (nI k)) sz = A at C w ⊢
  have C : om_C p m c cX1_widest 3 s _ RX1 D d A := C
  have hx := C.1.1
  have hb := C.1.2.1
  have hl : lv_has ls 3 [(0, .ref (h 0)), (1, .int (nI x))] := hl
  refine lv_iload_n hx hb dX1_widest_0 rfl (lv_at hl 1 rfl) ?_
  refine lv_iconst (v := nI 1) hx hb dX1_widest_1 (by decide) ?_
  refine om_isub hx hb (by omega) dX1_widest_2 ?_
  refine lv_istore_n (lv' := [(2, .int (nI (x - 1))), (0, .ref (h 0)), (1, .int (nI x))]) hx hb dX1_widest_3 rfl hl (by decide) rfl (fun ls hl => ?_)
  have hcg : ∀ t, t ≤ x → om_ap (fun i => vl (60 + i)) (fun i => vl (60 + x - t + i)) t = om_ap (om_pt vl) (fun i => om_pt vl (x - t + i)) t := fun t ht => om_ap_congr (fun i _ => rfl) (fun i _ => by show vl (60 + x - t + i) = vl (60 + (x - t + i)); congr 1; omega)
  refine om_loop1 (α := Nat) (I := fun b H locs ls => (b ≤ x - 1) ∧ (∀ t, b < t → t ≤ x - 1 → om_ap (om_pt vl) (fun i => om_pt vl (x - t + i)) t = false) ∧ om_H D A s (om_Y h d vl bs (nI n) (nI k)) H locs ∧ lv_has ls 3 [(0, .ref (h 0)), (1, .int (nI x)), (2, .int (nI b))]) (μ := fun b => b) ?_ (x - 1) _ _ _ ⟨Nat.le_refl _, (fun t t1 t2 => absurd t1 (by omega)), w, lv_sub hl [1, 2, 0] rfl⟩
  intro b H locs ls hI ih_4
  obtain ⟨hb2, hno, w, hl⟩ := hI
  refine lv_iload_n hx hb dX1_widest_4 rfl (lv_at hl 2 rfl) ?_
  refine om_if_le (tgt := 32) hx hb dX1_widest_5 (by decide) (by omega) (fun c_5 => ?_) (fun c_5 => ?_)
  · refine lv_iconst (v := nI 0) hx hb dX1_widest_32 (by decide) ?_
    have eb : om_wd (om_pt vl) x = 0 := om_lg_eq (Nat.zero_le _) (fun z => absurd z (by omega)) (fun t t1 t2 => hno t (by omega) t2)
    exact om_iret () C hr hlocks w (by rw [eb]) dX1_widest_33
  · refine lv_aload_n hx hb dX1_widest_8 rfl (lv_at hl 0 rfl) ?_
    refine lv_bipush (v := nI 60) hx hb dX1_widest_9 (by decide) ?_
    refine lv_bipush (v := nI 60) hx hb dX1_widest_11 (by decide) ?_
    refine lv_iload_n hx hb dX1_widest_13 rfl (lv_at hl 1 rfl) ?_
    refine om_iadd hx hb dX1_widest_14 ?_
    refine lv_iload_n hx hb dX1_widest_15 rfl (lv_at hl 2 rfl) ?_
    refine om_isub hx hb (by omega) dX1_widest_16 ?_
    refine lv_iload_n hx hb dX1_widest_17 rfl (lv_at hl 2 rfl) ?_
    refine om_calli (Wr := []) (As := [.int (nI 60), .int (nI ((60 + x) - b)), .int (nI b)]) (rest := []) C w (mY_alike l D d h vl bs (nI n) (nI k) 60 ((60 + x) - b) b (by omega) (by omega)) [0, 1, 2] [] rfl rfl rfl rfl (by decide) rfl rfl (cwV 3 C.1.2.2.2.2 (lw_V q230 q232 qs9 q14 q233) rfl rfl rfl (by decide +kernel) ⟨Nat.le_of_ble_eq_true rfl, Nat.le_of_ble_eq_true rfl⟩) rfl hl.1 rfl (Nat.le_of_ble_eq_true rfl) dX1_widest_18 ⟨Nat.zero_le _, Nat.zero_le _⟩ (fun r_2 u_2 H locs hp_2 w => ?_)
    have hp_2 : r_2 = bI (om_ap (fun i => vl (60 + i)) (fun i => vl ((60 + x) - b + i)) b) := hp_2
    subst hp_2
    have w : om_H D A s (om_Y h d vl bs (nI n) (nI k)) H locs := w
    refine om_if_eqB (tgt := 26) hx hb dX1_widest_21 (by decide) (fun c_21 => ?_) (fun c_21 => ?_)
    · rw [hcg b (by omega)] at c_21
      refine lv_iinc (v := nI (b - 1)) (lv' := [(2, .int (nI (b - 1))), (0, .ref (h 0)), (1, .int (nI x))]) hx hb dX1_widest_26 hl (k := 2) rfl (sb_m1 c_5) (by decide) rfl (fun ls hl => ?_)
      refine lv_goto (tgt := 4) hx hb dX1_widest_29 (by decide) ?_
      exact ih_4 (b - 1) _ _ _ (by first | omega | (dsimp only; omega)) ⟨by omega, (fun t t1 t2 => by
                                              rcases Nat.lt_or_ge b t with z | z
                                              · exact hno t z t2
                                              · rw [show t = b by omega]; exact c_21), w, lv_sub hl [1, 2, 0] rfl⟩
    · rw [hcg b (by omega)] at c_21
      refine lv_iload_n hx hb dX1_widest_24 rfl (lv_at hl 2 rfl) ?_
      have eb : om_wd (om_pt vl) x = b := om_lg_eq hb2 (fun _ => c_21) hno
      exact om_iret () C hr hlocks w (by rw [eb]) dX1_widest_25
set_option maxHeartbeats 4000000 in
set_option maxRecDepth 100000 in
/-- pattern of the model -/
theorem mY_pattern (l : Launch) (D : va_G) (d : ClassId) (h : Nat → Nat) (vl bs : Nat → Int32) (n k : Nat) (v : Int32) (hn : n ≤ 60) (hk : k ≤ 10) : om_Mi l yX1_pattern cX1_pattern 2 (some .int) { frames := 0, cells := 0, slots := 0, locals := 0 } D d [.ref (h 0), .int v] (om_Y h d vl bs (nI n) (nI k)) (fun (r : Int32) (u : om_T) => u.2.2.1 = n ∧ ((k = 10 ∧ r = -1 ∧ u.1 = vl ∧ u.2.2.2 = k) ∨ (k < 10 ∧ r = nI (k + 1) ∧ u.1 = upd vl (60 + k) v ∧ u.2.2.2 = k + 1))) (om_Yu h d) := by
  intro sz
  refine om_enter (by decide) (Nat.le_of_ble_eq_true rfl) ?_
  intro p e s m below meth c ls C hr hlocks w hl
  generalize va_A (om_Y h d vl bs (nI n) (nI k)) sz = A at C w ⊢
  have C : om_C p m c cX1_pattern 2 s _ RX1 D d A := C
  have hx := C.1.1
  have hb := C.1.2.1
  have hl : lv_has ls 2 [(0, .ref (h 0)), (1, .int v)] := hl
  refine lv_aload_n hx hb dX1_pattern_0 rfl (lv_at hl 0 rfl) ?_
  refine yg_siz C w dX1_pattern_1 ?_
  refine lv_bipush (v := nI 10) hx hb dX1_pattern_4 (by decide) ?_
  refine om_icmp_lt (tgt := 11) hx hb dX1_pattern_6 (by decide) (by omega) (by omega) (fun c_6 => ?_) (fun c_6 => ?_)
  · refine lv_aload_n hx hb dX1_pattern_11 rfl (lv_at hl 0 rfl) ?_
    refine yg_vl C w dX1_pattern_12 ?_
    refine lv_bipush (v := nI 60) hx hb dX1_pattern_15 (by decide) ?_
    refine lv_aload_n hx hb dX1_pattern_17 rfl (lv_at hl 0 rfl) ?_
    refine yg_siz C w dX1_pattern_18 ?_
    refine om_iadd hx hb dX1_pattern_21 ?_
    refine lv_iload_n hx hb dX1_pattern_22 rfl (lv_at hl 1 rfl) ?_
    refine ys_vl C w (i := 60 + k) (by omega) dX1_pattern_23 (fun H locs w => ?_)
    refine lv_aload_n hx hb dX1_pattern_24 rfl (lv_at hl 0 rfl) ?_
    refine lv_dup hx hb dX1_pattern_25 rfl ?_
    refine yg_siz C w dX1_pattern_26 ?_
    refine lv_iconst (v := nI 1) hx hb dX1_pattern_29 (by decide) ?_
    refine om_iadd hx hb dX1_pattern_30 ?_
    refine yp_siz C w dX1_pattern_31 (fun H locs w => ?_)
    refine lv_aload_n hx hb dX1_pattern_34 rfl (lv_at hl 0 rfl) ?_
    refine yg_siz C w dX1_pattern_35 ?_
    exact om_iret (upd vl (60 + k) v, bs, n, k + 1) C hr hlocks w (⟨rfl, Or.inr ⟨c_6, rfl, rfl, rfl⟩⟩) dX1_pattern_38
  · refine lv_iconst (v := (-1)) hx hb dX1_pattern_9 (by decide) ?_
    exact om_iret (vl, bs, n, k) C hr hlocks w (⟨rfl, Or.inl ⟨by omega, rfl, rfl, rfl⟩⟩) dX1_pattern_10
set_option maxHeartbeats 4000000 in
set_option maxRecDepth 100000 in
/-- clearPattern of the model -/
theorem mY_clearPattern (l : Launch) (D : va_G) (d : ClassId) (h : Nat → Nat) (vl bs : Nat → Int32) (n k : Nat) (hn : n ≤ 60) (hk : k ≤ 10) : om_Mi l yX1_clearPattern cX1_clearPattern 2 (some .int) { frames := 0, cells := 0, slots := 0, locals := 0 } D d [.ref (h 0)] (om_Y h d vl bs (nI n) (nI k)) (fun (r : Int32) (u : om_T) => u.1 = vl ∧ u.2.2.1 = n ∧ u.2.2.2 = 0 ∧ r = nI k) (om_Yu h d) := by
  intro sz
  refine om_enter (by decide) (Nat.le_of_ble_eq_true rfl) ?_
  intro p e s m below meth c ls C hr hlocks w hl
  generalize va_A (om_Y h d vl bs (nI n) (nI k)) sz = A at C w ⊢
  have C : om_C p m c cX1_clearPattern 2 s _ RX1 D d A := C
  have hx := C.1.1
  have hb := C.1.2.1
  have hl : lv_has ls 2 [(0, .ref (h 0))] := hl
  refine lv_aload_n hx hb dX1_clearPattern_0 rfl (lv_at hl 0 rfl) ?_
  refine yg_siz C w dX1_clearPattern_1 ?_
  refine lv_istore_n (lv' := [(1, .int (nI k)), (0, .ref (h 0))]) hx hb dX1_clearPattern_4 rfl hl (by decide) rfl (fun ls hl => ?_)
  refine lv_aload_n hx hb dX1_clearPattern_5 rfl (lv_at hl 1 rfl) ?_
  refine lv_iconst (v := nI 0) hx hb dX1_clearPattern_6 (by decide) ?_
  refine yp_siz C w dX1_clearPattern_7 (fun H locs w => ?_)
  refine lv_iload_n hx hb dX1_clearPattern_10 rfl (lv_at hl 0 rfl) ?_
  exact om_iret (vl, bs, n, 0) C hr hlocks w (⟨rfl, rfl, rfl, rfl⟩) dX1_clearPattern_11
set_option maxHeartbeats 4000000 in
set_option maxRecDepth 100000 in
/-- take of the model -/
theorem mY_take (l : Launch) (D : va_G) (d : ClassId) (h : Nat → Nat) (vl bs : Nat → Int32) (n k : Nat) (a b : Int32) (hn : n ≤ 60) (hk : k ≤ 10) : om_Mi l yX1_take cX1_take 4 (some .int) { frames := 0, cells := 0, slots := 0, locals := 0 } D d [.ref (h 0), .int a, .int b] (om_Y h d vl bs (nI n) (nI k)) (fun (r : Int32) (u : om_T) => u.2.2.1 = n ∧ u.2.2.2 = om_tkk n a.toInt b.toInt k ∧ r = om_tkr n a b ∧ (∀ j, j < 60 → u.1 j = vl j) ∧ ∀ j, u.1 (60 + j) = om_tkp n a.toInt b.toInt vl (om_pt vl) j) (om_Yu h d) := by
  intro sz
  refine om_enter (by decide) (Nat.le_of_ble_eq_true rfl) ?_
  intro p e s m below meth c ls C hr hlocks w hl
  generalize va_A (om_Y h d vl bs (nI n) (nI k)) sz = A at C w ⊢
  have C : om_C p m c cX1_take 4 s _ RX1 D d A := C
  have hx := C.1.1
  have hb := C.1.2.1
  have hl : lv_has ls 4 [(0, .ref (h 0)), (1, .int a), (2, .int b)] := hl
  refine lv_iload_n hx hb dX1_take_0 rfl (lv_at hl 2 rfl) ?_
  refine lv_if_lt (tgt := 10) hx hb dX1_take_1 (by decide) (fun c_1 => ?_) (fun c_1 => ?_)
  · refine lv_iconst (v := (-1)) hx hb dX1_take_10 (by decide) ?_
    have et : om_tk n a.toInt b.toInt = 1 := om_tk1 (Or.inl (om_neg c_1))
    have en := om_tk_no (k := k) (T := vl) (P := om_pt vl) (show ¬ _ = 0 from by rw [et]; decide)
    exact om_iret (vl, bs, n, k) C hr hlocks w (⟨rfl, en.1.symm, (by unfold om_tkr; rw [et]; rfl), fun j _ => rfl, fun j => (en.2 j).symm⟩) dX1_take_11
  · obtain ⟨y, hy, rfl⟩ := nI_of c_1
    refine lv_iload_n hx hb dX1_take_4 rfl (lv_at hl 2 rfl) ?_
    refine lv_bipush (v := nI 10) hx hb dX1_take_5 (by decide) ?_
    refine om_icmp_le (tgt := 12) hx hb dX1_take_7 (by decide) (by omega) (by omega) (fun c_7 => ?_) (fun c_7 => ?_)
    · refine lv_iload_n hx hb dX1_take_12 rfl (lv_at hl 1 rfl) ?_
      refine lv_if_lt (tgt := 26) hx hb dX1_take_13 (by decide) (fun c_13 => ?_) (fun c_13 => ?_)
      · refine lv_bipush (v := (-2)) hx hb dX1_take_26 (by decide) ?_
        have et : om_tk n a.toInt (nI y).toInt = 2 := by rw [nI_toInt hy]; exact om_tk2 (by omega) (by omega) (Or.inl (om_neg c_13))
        have en := om_tk_no (k := k) (T := vl) (P := om_pt vl) (show ¬ _ = 0 from by rw [et]; decide)
        exact om_iret (vl, bs, n, k) C hr hlocks w (⟨rfl, en.1.symm, (by unfold om_tkr; rw [et]; rfl), fun j _ => rfl, fun j => (en.2 j).symm⟩) dX1_take_28
      · obtain ⟨f, hf, rfl⟩ := nI_of c_13
        refine lv_iload_n hx hb dX1_take_16 rfl (lv_at hl 1 rfl) ?_
        refine lv_aload_n hx hb dX1_take_17 rfl (lv_at hl 0 rfl) ?_
        refine yg_len C w dX1_take_18 ?_
        refine lv_iload_n hx hb dX1_take_21 rfl (lv_at hl 2 rfl) ?_
        refine lv_isub hx hb dX1_take_22 ?_
        refine om_icmp_leD (tgt := 29) (x := f) (a := n) (b := y) hx hb dX1_take_23 (by decide) (by omega) (by omega) (by omega) (fun c_23 => ?_) (fun c_23 => ?_)
        · refine lv_iconst (v := nI 0) hx hb dX1_take_29 (by decide) ?_
          refine lv_istore_n (lv' := [(3, .int (nI 0)), (0, .ref (h 0)), (1, .int (nI f)), (2, .int (nI y))]) hx hb dX1_take_30 rfl hl (by decide) rfl (fun ls hl => ?_)
          refine om_loop2 (α := Nat) (β := (Nat → Int32)) (I := fun i vl2 H locs ls => (i ≤ y) ∧ (∀ j, vl2 j = if 60 ≤ j ∧ j < 60 + i then vl (f + (j - 60)) else vl j) ∧ om_H D A s (om_Y h d vl2 bs (nI n) (nI k)) H locs ∧ lv_has ls 4 [(0, .ref (h 0)), (1, .int (nI f)), (2, .int (nI y)), (3, .int (nI i))]) (μ := fun i vl2 => y - i) ?_ 0 vl _ _ _ ⟨Nat.zero_le _, (fun j => (if_neg (by omega)).symm), w, lv_sub hl [1, 2, 3, 0] rfl⟩
          intro i vl2 H locs ls hI ih_31
          obtain ⟨hi, hfi, w, hl⟩ := hI
          refine lv_iload_n hx hb dX1_take_31 rfl (lv_at hl 3 rfl) ?_
          refine lv_iload_n hx hb dX1_take_32 rfl (lv_at hl 2 rfl) ?_
          refine om_icmp_ge (tgt := 59) hx hb dX1_take_33 (by decide) (by omega) (by omega) (fun c_33 => ?_) (fun c_33 => ?_)
          · have hfi : ∀ j, vl2 j = if 60 ≤ j ∧ j < 60 + y then vl (f + (j - 60)) else vl j := by rw [show y = i by omega]; exact hfi
            refine lv_aload_n hx hb dX1_take_59 rfl (lv_at hl 0 rfl) ?_
            refine lv_iload_n hx hb dX1_take_60 rfl (lv_at hl 2 rfl) ?_
            refine yp_siz C w dX1_take_61 (fun H locs w => ?_)
            refine lv_iload_n hx hb dX1_take_64 rfl (lv_at hl 2 rfl) ?_
            have ey := om_tk_yes (k := k) (T := vl) (P := om_pt vl) hf c_7 c_23
            have e1 : ∀ j, j < 60 → vl2 j = vl j := fun j hj => (hfi j).trans (if_neg (by omega))
            have e2 : ∀ j, vl2 (60 + j) = if j < y then vl (f + j) else om_pt vl j := fun j => by
              rw [hfi (60 + j)]
              by_cases z : j < y
              · rw [if_pos (by omega), if_pos z, show 60 + j - 60 = j by omega]
              · rw [if_neg (by omega), if_neg z]; rfl
            exact om_iret (vl2, bs, n, y) C hr hlocks w (⟨rfl, ey.2.1.symm, ey.1.symm, e1, fun j => (e2 j).trans (ey.2.2 j).symm⟩) dX1_take_65
          · refine lv_aload_n hx hb dX1_take_36 rfl (lv_at hl 0 rfl) ?_
            refine yg_vl C w dX1_take_37 ?_
            refine lv_bipush (v := nI 60) hx hb dX1_take_40 (by decide) ?_
            refine lv_iload_n hx hb dX1_take_42 rfl (lv_at hl 3 rfl) ?_
            refine om_iadd hx hb dX1_take_43 ?_
            refine lv_aload_n hx hb dX1_take_44 rfl (lv_at hl 0 rfl) ?_
            refine yg_vl C w dX1_take_45 ?_
            refine lv_iload_n hx hb dX1_take_48 rfl (lv_at hl 1 rfl) ?_
            refine lv_iload_n hx hb dX1_take_49 rfl (lv_at hl 3 rfl) ?_
            refine om_iadd hx hb dX1_take_50 ?_
            refine yl_vl C w (i := f + i) (by omega) dX1_take_51 ?_
            refine ys_vl C w (i := 60 + i) (by omega) dX1_take_52 (fun H locs w => ?_)
            refine lv_iinc (v := nI (i + 1)) (lv' := [(3, .int (nI (i + 1))), (0, .ref (h 0)), (1, .int (nI f)), (2, .int (nI y))]) hx hb dX1_take_53 hl (k := 3) rfl (nI_add _ 1) (by decide) rfl (fun ls hl => ?_)
            refine lv_goto (tgt := 31) hx hb dX1_take_56 (by decide) ?_
            exact ih_31 (i + 1) (upd vl2 (60 + i) (vl2 (f + i))) _ _ _ (by first | omega | (dsimp only; omega)) ⟨by omega, (by rw [hfi (f + i), if_neg (by omega)]; exact om_fill (g := fun j => vl (f + j)) hfi), w, lv_sub hl [1, 2, 3, 0] rfl⟩
        · refine lv_bipush (v := (-2)) hx hb dX1_take_26 (by decide) ?_
          have et : om_tk n (nI f).toInt (nI y).toInt = 2 := by rw [nI_toInt hy, nI_toInt hf]; exact om_tk2 (by omega) (by omega) (by omega)
          have en := om_tk_no (k := k) (T := vl) (P := om_pt vl) (show ¬ _ = 0 from by rw [et]; decide)
          exact om_iret (vl, bs, n, k) C hr hlocks w (⟨rfl, en.1.symm, (by unfold om_tkr; rw [et]; rfl), fun j _ => rfl, fun j => (en.2 j).symm⟩) dX1_take_28
    · refine lv_iconst (v := (-1)) hx hb dX1_take_10 (by decide) ?_
      have et : om_tk n a.toInt (nI y).toInt = 1 := by rw [nI_toInt hy]; exact om_tk1 (by omega)
      have en := om_tk_no (k := k) (T := vl) (P := om_pt vl) (show ¬ _ = 0 from by rw [et]; decide)
      exact om_iret (vl, bs, n, k) C hr hlocks w (⟨rfl, en.1.symm, (by unfold om_tkr; rw [et]; rfl), fun j _ => rfl, fun j => (en.2 j).symm⟩) dX1_take_11
set_option maxHeartbeats 4000000 in
set_option maxRecDepth 100000 in
/-- feed of the model -/
theorem mY_feed (l : Launch) (D : va_G) (d : ClassId) (h : Nat → Nat) (vl bs : Nat → Int32) (n k : Nat) (v : Int32) (hn : n ≤ 60) (hk : k ≤ 10) : om_Mi l yX1_feed cX1_feed 2 (some .int) { frames := 0, cells := 0, slots := 0, locals := 0 } D d [.ref (h 0), .int v] (om_Y h d vl bs (nI n) (nI k)) (fun (r : Int32) (u : om_T) => u.2.2.2 = k ∧ ((n = 60 ∧ r = -1 ∧ u.1 = vl ∧ u.2.2.1 = n) ∨ (n < 60 ∧ r = nI (n + 1) ∧ u.1 = upd vl n v ∧ u.2.2.1 = n + 1))) (om_Yu h d) := by
  intro sz
  refine om_enter (by decide) (Nat.le_of_ble_eq_true rfl) ?_
  intro p e s m below meth c ls C hr hlocks w hl
  generalize va_A (om_Y h d vl bs (nI n) (nI k)) sz = A at C w ⊢
  have C : om_C p m c cX1_feed 2 s _ RX1 D d A := C
  have hx := C.1.1
  have hb := C.1.2.1
  have hl : lv_has ls 2 [(0, .ref (h 0)), (1, .int v)] := hl
  refine lv_aload_n hx hb dX1_feed_0 rfl (lv_at hl 0 rfl) ?_
  refine yg_len C w dX1_feed_1 ?_
  refine lv_bipush (v := nI 60) hx hb dX1_feed_4 (by decide) ?_
  refine om_icmp_lt (tgt := 11) hx hb dX1_feed_6 (by decide) (by omega) (by omega) (fun c_6 => ?_) (fun c_6 => ?_)
  · refine lv_aload_n hx hb dX1_feed_11 rfl (lv_at hl 0 rfl) ?_
    refine yg_vl C w dX1_feed_12 ?_
    refine lv_aload_n hx hb dX1_feed_15 rfl (lv_at hl 0 rfl) ?_
    refine yg_len C w dX1_feed_16 ?_
    refine lv_iload_n hx hb dX1_feed_19 rfl (lv_at hl 1 rfl) ?_
    refine ys_vl C w (i := n) (by omega) dX1_feed_20 (fun H locs w => ?_)
    refine lv_aload_n hx hb dX1_feed_21 rfl (lv_at hl 0 rfl) ?_
    refine lv_dup hx hb dX1_feed_22 rfl ?_
    refine yg_len C w dX1_feed_23 ?_
    refine lv_iconst (v := nI 1) hx hb dX1_feed_26 (by decide) ?_
    refine om_iadd hx hb dX1_feed_27 ?_
    refine yp_len C w dX1_feed_28 (fun H locs w => ?_)
    refine lv_aload_n hx hb dX1_feed_31 rfl (lv_at hl 0 rfl) ?_
    refine yg_len C w dX1_feed_32 ?_
    exact om_iret (upd vl n v, bs, n + 1, k) C hr hlocks w (⟨rfl, Or.inr ⟨c_6, rfl, rfl, rfl⟩⟩) dX1_feed_35
  · refine lv_iconst (v := (-1)) hx hb dX1_feed_9 (by decide) ?_
    exact om_iret (vl, bs, n, k) C hr hlocks w (⟨rfl, Or.inl ⟨by omega, rfl, rfl, rfl⟩⟩) dX1_feed_10
set_option maxHeartbeats 4000000 in
set_option maxRecDepth 100000 in
/-- ramp of the model -/
theorem mY_ramp (l : Launch) (D : va_G) (d : ClassId) (h : Nat → Nat) (vl bs : Nat → Int32) (n k : Nat) (a b q : Int32) (hn : n ≤ 60) (hk : k ≤ 10) : om_Mi l yX1_ramp cX1_ramp 5 (some .int) { frames := 0, cells := 0, slots := 0, locals := 0 } D d [.ref (h 0), .int a, .int b, .int q] (om_Y h d vl bs (nI n) (nI k)) (fun (r : Int32) (u : om_T) => u.2.2.2 = k ∧ u.2.2.1 = om_rpn n q.toInt ∧ r = om_rpr n q.toInt ∧ ∀ j, u.1 j = om_rpt n q.toInt a b vl j) (om_Yu h d) := by
  intro sz
  refine om_enter (by decide) (Nat.le_of_ble_eq_true rfl) ?_
  intro p e s m below meth c ls C hr hlocks w hl
  generalize va_A (om_Y h d vl bs (nI n) (nI k)) sz = A at C w ⊢
  have C : om_C p m c cX1_ramp 5 s _ RX1 D d A := C
  have hx := C.1.1
  have hb := C.1.2.1
  have hl : lv_has ls 5 [(0, .ref (h 0)), (1, .int a), (2, .int b), (3, .int q)] := hl
  refine lv_iload_n hx hb dX1_ramp_0 rfl (lv_at hl 3 rfl) ?_
  refine lv_iconst (v := nI 1) hx hb dX1_ramp_1 (by decide) ?_
  refine lv_icmp_lt (tgt := 11) hx hb dX1_ramp_2 (by decide) (fun c_2 => ?_) (fun c_2 => ?_)
  · refine lv_iconst (v := (-1)) hx hb dX1_ramp_11 (by decide) ?_
    have et : om_rp n q.toInt = 1 := om_rp1 (Or.inl (om_lt1 c_2))
    have en := om_rp_no (a := a) (b := b) (T := vl) (show ¬ _ = 0 from by rw [et]; decide)
    exact om_iret (vl, bs, n, k) C hr hlocks w (⟨rfl, en.1.symm, (by unfold om_rpr; rw [et]; rfl), fun j => (en.2 j).symm⟩) dX1_ramp_12
  · obtain ⟨y, hy1, hy, rfl⟩ := om_ge1 c_2
    refine lv_iload_n hx hb dX1_ramp_5 rfl (lv_at hl 3 rfl) ?_
    refine lv_bipush (v := nI 60) hx hb dX1_ramp_6 (by decide) ?_
    refine om_icmp_le (tgt := 13) hx hb dX1_ramp_8 (by decide) (by omega) (by omega) (fun c_8 => ?_) (fun c_8 => ?_)
    · refine lv_aload_n hx hb dX1_ramp_13 rfl (lv_at hl 0 rfl) ?_
      refine yg_len C w dX1_ramp_14 ?_
      refine lv_iload_n hx hb dX1_ramp_17 rfl (lv_at hl 3 rfl) ?_
      refine om_iadd hx hb dX1_ramp_18 ?_
      refine lv_bipush (v := nI 60) hx hb dX1_ramp_19 (by decide) ?_
      refine om_icmp_le (tgt := 27) hx hb dX1_ramp_21 (by decide) (by omega) (by omega) (fun c_21 => ?_) (fun c_21 => ?_)
      · refine lv_iconst (v := nI 0) hx hb dX1_ramp_27 (by decide) ?_
        refine lv_istore (lv' := [(4, .int (nI 0)), (0, .ref (h 0)), (1, .int a), (2, .int b), (3, .int (nI y))]) hx hb dX1_ramp_28 hl (by decide) rfl (fun ls hl => ?_)
        refine om_loop2 (α := Nat) (β := (Nat → Int32)) (I := fun i vl2 H locs ls => (i ≤ y) ∧ (∀ j, vl2 j = if n ≤ j ∧ j < n + i then a + nI (j - n) * b else vl j) ∧ om_H D A s (om_Y h d vl2 bs (nI n) (nI k)) H locs ∧ lv_has ls 5 [(0, .ref (h 0)), (1, .int a), (2, .int b), (3, .int (nI y)), (4, .int (nI i))]) (μ := fun i vl2 => y - i) ?_ 0 vl _ _ _ ⟨Nat.zero_le _, (fun j => (if_neg (by omega)).symm), w, lv_sub hl [1, 2, 3, 4, 0] rfl⟩
        intro i vl2 H locs ls hI ih_30
        obtain ⟨hi, hfi, w, hl⟩ := hI
        refine lv_iload hx hb dX1_ramp_30 (lv_at hl 4 rfl) ?_
        refine lv_iload_n hx hb dX1_ramp_32 rfl (lv_at hl 3 rfl) ?_
        refine om_icmp_ge (tgt := 60) hx hb dX1_ramp_33 (by decide) (by omega) (by omega) (fun c_33 => ?_) (fun c_33 => ?_)
        · have hfi : ∀ j, vl2 j = if n ≤ j ∧ j < n + y then a + nI (j - n) * b else vl j := by rw [show y = i by omega]; exact hfi
          refine lv_aload_n hx hb dX1_ramp_60 rfl (lv_at hl 0 rfl) ?_
          refine lv_dup hx hb dX1_ramp_61 rfl ?_
          refine yg_len C w dX1_ramp_62 ?_
          refine lv_iload_n hx hb dX1_ramp_65 rfl (lv_at hl 3 rfl) ?_
          refine om_iadd hx hb dX1_ramp_66 ?_
          refine yp_len C w dX1_ramp_67 (fun H locs w => ?_)
          refine lv_aload_n hx hb dX1_ramp_70 rfl (lv_at hl 0 rfl) ?_
          refine yg_len C w dX1_ramp_71 ?_
          have ey := om_rp_yes (a := a) (b := b) (T := vl) hy1 c_21
          exact om_iret (vl2, bs, n + y, k) C hr hlocks w (⟨rfl, ey.2.1.symm, ey.1.symm, fun j => (hfi j).trans (ey.2.2 j).symm⟩) dX1_ramp_74
        · refine lv_aload_n hx hb dX1_ramp_36 rfl (lv_at hl 0 rfl) ?_
          refine yg_vl C w dX1_ramp_37 ?_
          refine lv_aload_n hx hb dX1_ramp_40 rfl (lv_at hl 0 rfl) ?_
          refine yg_len C w dX1_ramp_41 ?_
          refine lv_iload hx hb dX1_ramp_44 (lv_at hl 4 rfl) ?_
          refine om_iadd hx hb dX1_ramp_46 ?_
          refine lv_iload_n hx hb dX1_ramp_47 rfl (lv_at hl 1 rfl) ?_
          refine lv_iload hx hb dX1_ramp_48 (lv_at hl 4 rfl) ?_
          refine lv_iload_n hx hb dX1_ramp_50 rfl (lv_at hl 2 rfl) ?_
          refine lv_imul hx hb dX1_ramp_51 ?_
          refine lv_iadd hx hb dX1_ramp_52 ?_
          refine ys_vl C w (i := n + i) (by omega) dX1_ramp_53 (fun H locs w => ?_)
          refine lv_iinc (v := nI (i + 1)) (lv' := [(4, .int (nI (i + 1))), (0, .ref (h 0)), (1, .int a), (2, .int b), (3, .int (nI y))]) hx hb dX1_ramp_54 hl (k := 4) rfl (nI_add _ 1) (by decide) rfl (fun ls hl => ?_)
          refine lv_goto (tgt := 30) hx hb dX1_ramp_57 (by decide) ?_
          exact ih_30 (i + 1) (upd vl2 (n + i) (a + ((nI i) * b))) _ _ _ (by first | omega | (dsimp only; omega)) ⟨by omega, om_fill (g := fun j => a + nI j * b) hfi, w, lv_sub hl [1, 2, 3, 4, 0] rfl⟩
      · refine lv_bipush (v := (-2)) hx hb dX1_ramp_24 (by decide) ?_
        have et : om_rp n (nI y).toInt = 2 := by rw [nI_toInt hy]; exact om_rp2 (by omega) (by omega) (by omega)
        have en := om_rp_no (a := a) (b := b) (T := vl) (show ¬ _ = 0 from by rw [et]; decide)
        exact om_iret (vl, bs, n, k) C hr hlocks w (⟨rfl, en.1.symm, (by unfold om_rpr; rw [et]; rfl), fun j => (en.2 j).symm⟩) dX1_ramp_26
    · refine lv_iconst (v := (-1)) hx hb dX1_ramp_11 (by decide) ?_
      have et : om_rp n (nI y).toInt = 1 := by rw [nI_toInt hy]; exact om_rp1 (by omega)
      have en := om_rp_no (a := a) (b := b) (T := vl) (show ¬ _ = 0 from by rw [et]; decide)
      exact om_iret (vl, bs, n, k) C hr hlocks w (⟨rfl, en.1.symm, (by unfold om_rpr; rw [et]; rfl), fun j => (en.2 j).symm⟩) dX1_ramp_12
set_option maxHeartbeats 4000000 in
set_option maxRecDepth 100000 in
/-- echo of the model -/
theorem mY_echo (l : Launch) (D : va_G) (d : ClassId) (h : Nat → Nat) (vl bs : Nat → Int32) (n k : Nat) (q b a : Int32) (hn : n ≤ 60) (hk : k ≤ 10) : om_Mi l yX1_echo cX1_echo 7 (some .int) { frames := 0, cells := 0, slots := 0, locals := 0 } D d [.ref (h 0), .int q, .int b, .int a] (om_Y h d vl bs (nI n) (nI k)) (fun (r : Int32) (u : om_T) => u.2.2.2 = k ∧ u.2.2.1 = om_ecn n q.toInt ∧ r = om_ecr n q.toInt ∧ ∀ j, u.1 j = om_ect n q.toInt b a vl j) (om_Yu h d) := by
  intro sz
  refine om_enter (by decide) (Nat.le_of_ble_eq_true rfl) ?_
  intro p e s m below meth c ls C hr hlocks w hl
  generalize va_A (om_Y h d vl bs (nI n) (nI k)) sz = A at C w ⊢
  have C : om_C p m c cX1_echo 7 s _ RX1 D d A := C
  have hx := C.1.1
  have hb := C.1.2.1
  have hl : lv_has ls 7 [(0, .ref (h 0)), (1, .int q), (2, .int b), (3, .int a)] := hl
  refine lv_iload_n hx hb dX1_echo_0 rfl (lv_at hl 1 rfl) ?_
  refine lv_if_ge (tgt := 6) hx hb dX1_echo_1 (by decide) (fun c_1 => ?_) (fun c_1 => ?_)
  · obtain ⟨y, hy, rfl⟩ := nI_of (om_nlt c_1)
    refine lv_iload_n hx hb dX1_echo_6 rfl (lv_at hl 1 rfl) ?_
    refine lv_bipush (v := nI 64) hx hb dX1_echo_7 (by decide) ?_
    refine om_idiv hx hb hy (by omega) (by omega) dX1_echo_9 ?_
    refine lv_istore (lv' := [(4, .int (nI (y / 64))), (0, .ref (h 0)), (1, .int (nI y)), (2, .int b), (3, .int a)]) hx hb dX1_echo_10 hl (by decide) rfl (fun ls hl => ?_)
    refine lv_iload_n hx hb dX1_echo_12 rfl (lv_at hl 2 rfl) ?_
    refine lv_bipush (v := nI 64) hx hb dX1_echo_13 (by decide) ?_
    refine om_irem hx hb hy (by omega) (by omega) dX1_echo_15 ?_
    refine lv_istore (lv' := [(5, .int (nI (y % 64))), (4, .int (nI (y / 64))), (0, .ref (h 0)), (1, .int (nI y)), (2, .int b), (3, .int a)]) hx hb dX1_echo_16 hl (by decide) rfl (fun ls hl => ?_)
    refine lv_iload hx hb dX1_echo_18 (lv_at hl 1 rfl) ?_
    refine lv_iconst (v := nI 1) hx hb dX1_echo_20 (by decide) ?_
    refine om_icmp_lt (tgt := 31) hx hb dX1_echo_21 (by decide) (by omega) (by omega) (fun c_21 => ?_) (fun c_21 => ?_)
    · refine lv_iconst (v := (-1)) hx hb dX1_echo_31 (by decide) ?_
      have et : om_ec n (nI y).toInt = 1 := by rw [nI_toInt hy]; exact om_ec1 (by simp only [Int.toNat_natCast]; omega)
      have en := om_ec_no (a := a) (b := b) (T := vl) (show ¬ _ = 0 from by rw [et]; decide)
      exact om_iret (vl, bs, n, k) C hr hlocks w (⟨rfl, en.1.symm, (by unfold om_ecr; rw [et]; rfl), fun j => (en.2 j).symm⟩) dX1_echo_32
    · refine lv_iload hx hb dX1_echo_24 (lv_at hl 1 rfl) ?_
      refine lv_bipush (v := nI 20) hx hb dX1_echo_26 (by decide) ?_
      refine om_icmp_le (tgt := 33) hx hb dX1_echo_28 (by decide) (by omega) (by omega) (fun c_28 => ?_) (fun c_28 => ?_)
      · refine lv_iload hx hb dX1_echo_33 (lv_at hl 0 rfl) ?_
        refine lv_aload_n hx hb dX1_echo_35 rfl (lv_at hl 2 rfl) ?_
        refine yg_len C w dX1_echo_36 ?_
        refine lv_iload hx hb dX1_echo_39 (lv_at hl 1 rfl) ?_
        refine lv_isub hx hb dX1_echo_41 ?_
        refine om_icmp_leD (tgt := 48) (x := y % 64) (a := n) (b := y / 64) hx hb dX1_echo_42 (by decide) (by omega) (by omega) (by omega) (fun c_42 => ?_) (fun c_42 => ?_)
        · refine lv_aload_n hx hb dX1_echo_48 rfl (lv_at hl 2 rfl) ?_
          refine yg_len C w dX1_echo_49 ?_
          refine lv_iload hx hb dX1_echo_52 (lv_at hl 1 rfl) ?_
          refine om_iadd hx hb dX1_echo_54 ?_
          refine lv_bipush (v := nI 60) hx hb dX1_echo_55 (by decide) ?_
          refine om_icmp_le (tgt := 63) hx hb dX1_echo_57 (by decide) (by omega) (by omega) (fun c_57 => ?_) (fun c_57 => ?_)
          · refine lv_iconst (v := nI 0) hx hb dX1_echo_63 (by decide) ?_
            refine lv_istore (lv' := [(6, .int (nI 0)), (5, .int (nI (y % 64))), (4, .int (nI (y / 64))), (0, .ref (h 0)), (1, .int (nI y)), (2, .int b), (3, .int a)]) hx hb dX1_echo_64 hl (by decide) rfl (fun ls hl => ?_)
            refine om_loop2 (α := Nat) (β := (Nat → Int32)) (I := fun i vl2 H locs ls => (i ≤ y / 64) ∧ (∀ j, vl2 j = if n ≤ j ∧ j < n + i then vl (y % 64 + (j - n)) * b + a else vl j) ∧ om_H D A s (om_Y h d vl2 bs (nI n) (nI k)) H locs ∧ lv_has ls 7 [(0, .ref (h 0)), (2, .int b), (3, .int a), (4, .int (nI (y / 64))), (5, .int (nI (y % 64))), (6, .int (nI i))]) (μ := fun i vl2 => y / 64 - i) ?_ 0 vl _ _ _ ⟨Nat.zero_le _, (fun j => (if_neg (by omega)).symm), w, lv_sub hl [3, 5, 6, 2, 1, 0] rfl⟩
            intro i vl2 H locs ls hI ih_66
            obtain ⟨hi, hfi, w, hl⟩ := hI
            refine lv_iload hx hb dX1_echo_66 (lv_at hl 5 rfl) ?_
            refine lv_iload hx hb dX1_echo_68 (lv_at hl 3 rfl) ?_
            refine om_icmp_ge (tgt := 105) hx hb dX1_echo_70 (by decide) (by omega) (by omega) (fun c_70 => ?_) (fun c_70 => ?_)
            · have hfi : ∀ j, vl2 j = if n ≤ j ∧ j < n + y / 64 then vl (y % 64 + (j - n)) * b + a else vl j := by rw [show y / 64 = i by omega]; exact hfi
              refine lv_aload_n hx hb dX1_echo_105 rfl (lv_at hl 0 rfl) ?_
              refine lv_dup hx hb dX1_echo_106 rfl ?_
              refine yg_len C w dX1_echo_107 ?_
              refine lv_iload hx hb dX1_echo_110 (lv_at hl 3 rfl) ?_
              refine om_iadd hx hb dX1_echo_112 ?_
              refine yp_len C w dX1_echo_113 (fun H locs w => ?_)
              refine lv_aload_n hx hb dX1_echo_116 rfl (lv_at hl 0 rfl) ?_
              refine yg_len C w dX1_echo_117 ?_
              have ey := om_ec_yes (a := a) (b := b) (T := vl) hy c_21 c_28 c_42 c_57
              exact om_iret (vl2, bs, n + (y / 64), k) C hr hlocks w (⟨rfl, ey.2.1.symm, ey.1.symm, fun j => (hfi j).trans (ey.2.2 j).symm⟩) dX1_echo_120
            · refine lv_aload_n hx hb dX1_echo_73 rfl (lv_at hl 0 rfl) ?_
              refine yg_vl C w dX1_echo_74 ?_
              refine lv_aload_n hx hb dX1_echo_77 rfl (lv_at hl 0 rfl) ?_
              refine yg_len C w dX1_echo_78 ?_
              refine lv_iload hx hb dX1_echo_81 (lv_at hl 5 rfl) ?_
              refine om_iadd hx hb dX1_echo_83 ?_
              refine lv_aload_n hx hb dX1_echo_84 rfl (lv_at hl 0 rfl) ?_
              refine yg_vl C w dX1_echo_85 ?_
              refine lv_iload hx hb dX1_echo_88 (lv_at hl 4 rfl) ?_
              refine lv_iload hx hb dX1_echo_90 (lv_at hl 5 rfl) ?_
              refine om_iadd hx hb dX1_echo_92 ?_
              refine yl_vl C w (i := y % 64 + i) (by omega) dX1_echo_93 ?_
              refine lv_iload_n hx hb dX1_echo_94 rfl (lv_at hl 1 rfl) ?_
              refine lv_imul hx hb dX1_echo_95 ?_
              refine lv_iload_n hx hb dX1_echo_96 rfl (lv_at hl 2 rfl) ?_
              refine lv_iadd hx hb dX1_echo_97 ?_
              refine ys_vl C w (i := n + i) (by omega) dX1_echo_98 (fun H locs w => ?_)
              refine lv_iinc (v := nI (i + 1)) (lv' := [(6, .int (nI (i + 1))), (0, .ref (h 0)), (2, .int b), (3, .int a), (4, .int (nI (y / 64))), (5, .int (nI (y % 64)))]) hx hb dX1_echo_99 hl (k := 5) rfl (nI_add _ 1) (by decide) rfl (fun ls hl => ?_)
              refine lv_goto (tgt := 66) hx hb dX1_echo_102 (by decide) ?_
              exact ih_66 (i + 1) (upd vl2 (n + i) (((vl2 (y % 64 + i)) * b) + a)) _ _ _ (by first | omega | (dsimp only; omega)) ⟨by omega, (by have := om_fill (g := fun j => vl (y % 64 + j) * b + a) hfi; rw [hfi (y % 64 + i), if_neg (by omega)]; exact this), w, lv_sub hl [1, 2, 3, 4, 5, 0] rfl⟩
          · refine lv_bipush (v := (-3)) hx hb dX1_echo_60 (by decide) ?_
            have et : om_ec n (nI y).toInt = 3 := om_ec3 c_21 c_28 c_42 c_57 hy
            have en := om_ec_no (a := a) (b := b) (T := vl) (show ¬ _ = 0 from by rw [et]; decide)
            exact om_iret (vl, bs, n, k) C hr hlocks w (⟨rfl, en.1.symm, (by unfold om_ecr; rw [et]; rfl), fun j => (en.2 j).symm⟩) dX1_echo_62
        · refine lv_bipush (v := (-2)) hx hb dX1_echo_45 (by decide) ?_
          have et : om_ec n (nI y).toInt = 2 := om_ec2 c_21 c_28 c_42 hy
          have en := om_ec_no (a := a) (b := b) (T := vl) (show ¬ _ = 0 from by rw [et]; decide)
          exact om_iret (vl, bs, n, k) C hr hlocks w (⟨rfl, en.1.symm, (by unfold om_ecr; rw [et]; rfl), fun j => (en.2 j).symm⟩) dX1_echo_47
      · refine lv_iconst (v := (-1)) hx hb dX1_echo_31 (by decide) ?_
        have et : om_ec n (nI y).toInt = 1 := by rw [nI_toInt hy]; exact om_ec1 (by simp only [Int.toNat_natCast]; omega)
        have en := om_ec_no (a := a) (b := b) (T := vl) (show ¬ _ = 0 from by rw [et]; decide)
        exact om_iret (vl, bs, n, k) C hr hlocks w (⟨rfl, en.1.symm, (by unfold om_ecr; rw [et]; rfl), fun j => (en.2 j).symm⟩) dX1_echo_32
  · refine lv_iconst (v := (-1)) hx hb dX1_echo_4 (by decide) ?_
    have et : om_ec n q.toInt = 1 := om_ec1 (Or.inl (om_neg (om_nle c_1)))
    have en := om_ec_no (a := a) (b := b) (T := vl) (show ¬ _ = 0 from by rw [et]; decide)
    exact om_iret (vl, bs, n, k) C hr hlocks w (⟨rfl, en.1.symm, (by unfold om_ecr; rw [et]; rfl), fun j => (en.2 j).symm⟩) dX1_echo_5
set_option maxHeartbeats 4000000 in
set_option maxRecDepth 100000 in
/-- undo of the model -/
theorem mY_undo (l : Launch) (D : va_G) (d : ClassId) (h : Nat → Nat) (vl bs : Nat → Int32) (n k : Nat) (q : Int32) (hn : n ≤ 60) (hk : k ≤ 10) : om_Mi l yX1_undo cX1_undo 2 (some .int) { frames := 0, cells := 0, slots := 0, locals := 0 } D d [.ref (h 0), .int q] (om_Y h d vl bs (nI n) (nI k)) (fun (r : Int32) (u : om_T) => u.1 = vl ∧ u.2.2.2 = k ∧ u.2.2.1 = om_un n q.toInt ∧ r = om_unr n q.toInt) (om_Yu h d) := by
  intro sz
  refine om_enter (by decide) (Nat.le_of_ble_eq_true rfl) ?_
  intro p e s m below meth c ls C hr hlocks w hl
  generalize va_A (om_Y h d vl bs (nI n) (nI k)) sz = A at C w ⊢
  have C : om_C p m c cX1_undo 2 s _ RX1 D d A := C
  have hx := C.1.1
  have hb := C.1.2.1
  have hl : lv_has ls 2 [(0, .ref (h 0)), (1, .int q)] := hl
  refine lv_iload_n hx hb dX1_undo_0 rfl (lv_at hl 1 rfl) ?_
  refine lv_if_lt (tgt := 12) hx hb dX1_undo_1 (by decide) (fun c_1 => ?_) (fun c_1 => ?_)
  · refine lv_iconst (v := (-1)) hx hb dX1_undo_12 (by decide) ?_
    have en : om_un n q.toInt = n ∧ om_unr n q.toInt = -1 := om_un_no (Or.inl (om_neg c_1))
    exact om_iret (vl, bs, n, k) C hr hlocks w (⟨rfl, rfl, en.1.symm, en.2.symm⟩) dX1_undo_13
  · obtain ⟨y, hy, rfl⟩ := nI_of c_1
    refine lv_iload_n hx hb dX1_undo_4 rfl (lv_at hl 1 rfl) ?_
    refine lv_aload_n hx hb dX1_undo_5 rfl (lv_at hl 0 rfl) ?_
    refine yg_len C w dX1_undo_6 ?_
    refine om_icmp_le (tgt := 14) hx hb dX1_undo_9 (by decide) (by omega) (by omega) (fun c_9 => ?_) (fun c_9 => ?_)
    · refine lv_aload_n hx hb dX1_undo_14 rfl (lv_at hl 0 rfl) ?_
      refine lv_dup hx hb dX1_undo_15 rfl ?_
      refine yg_len C w dX1_undo_16 ?_
      refine lv_iload_n hx hb dX1_undo_19 rfl (lv_at hl 1 rfl) ?_
      refine om_isub hx hb (by omega) dX1_undo_20 ?_
      refine yp_len C w dX1_undo_21 (fun H locs w => ?_)
      refine lv_aload_n hx hb dX1_undo_24 rfl (lv_at hl 0 rfl) ?_
      refine yg_len C w dX1_undo_25 ?_
      have ey := om_un_yes hy c_9
      exact om_iret (vl, bs, n - y, k) C hr hlocks w (⟨rfl, rfl, ey.1.symm, ey.2.symm⟩) dX1_undo_28
    · refine lv_iconst (v := (-1)) hx hb dX1_undo_12 (by decide) ?_
      have en : om_un n (nI y).toInt = n ∧ om_unr n (nI y).toInt = -1 := om_un_no (Or.inr (by rw [nI_toInt hy]; omega))
      exact om_iret (vl, bs, n, k) C hr hlocks w (⟨rfl, rfl, en.1.symm, en.2.symm⟩) dX1_undo_13
set_option maxHeartbeats 4000000 in
set_option maxRecDepth 100000 in
/-- length of the model -/
theorem mY_length (l : Launch) (D : va_G) (d : ClassId) (h : Nat → Nat) (vl bs : Nat → Int32) (n k : Nat) (hn : n ≤ 60) (hk : k ≤ 10) : om_Mi l yX1_length cX1_length 1 (some .int) { frames := 0, cells := 0, slots := 0, locals := 0 } D d [.ref (h 0)] (om_Y h d vl bs (nI n) (nI k)) (fun (r : Int32) (u : om_T) => u.1 = vl ∧ u.2.2.1 = n ∧ u.2.2.2 = k ∧ r = nI n) (om_Yu h d) := by
  intro sz
  refine om_enter (by decide) (Nat.le_of_ble_eq_true rfl) ?_
  intro p e s m below meth c ls C hr hlocks w hl
  generalize va_A (om_Y h d vl bs (nI n) (nI k)) sz = A at C w ⊢
  have C : om_C p m c cX1_length 1 s _ RX1 D d A := C
  have hx := C.1.1
  have hb := C.1.2.1
  have hl : lv_has ls 1 [(0, .ref (h 0))] := hl
  refine lv_aload_n hx hb dX1_length_0 rfl (lv_at hl 0 rfl) ?_
  refine yg_len C w dX1_length_1 ?_
  exact om_iret (vl, bs, n, k) C hr hlocks w (⟨rfl, rfl, rfl, rfl⟩) dX1_length_4
set_option maxHeartbeats 4000000 in
set_option maxRecDepth 100000 in
/-- patternLength of the model -/
theorem mY_patternLength (l : Launch) (D : va_G) (d : ClassId) (h : Nat → Nat) (vl bs : Nat → Int32) (n k : Nat) (hn : n ≤ 60) (hk : k ≤ 10) : om_Mi l yX1_patternLength cX1_patternLength 1 (some .int) { frames := 0, cells := 0, slots := 0, locals := 0 } D d [.ref (h 0)] (om_Y h d vl bs (nI n) (nI k)) (fun (r : Int32) (u : om_T) => u.1 = vl ∧ u.2.2.1 = n ∧ u.2.2.2 = k ∧ r = nI k) (om_Yu h d) := by
  intro sz
  refine om_enter (by decide) (Nat.le_of_ble_eq_true rfl) ?_
  intro p e s m below meth c ls C hr hlocks w hl
  generalize va_A (om_Y h d vl bs (nI n) (nI k)) sz = A at C w ⊢
  have C : om_C p m c cX1_patternLength 1 s _ RX1 D d A := C
  have hx := C.1.1
  have hb := C.1.2.1
  have hl : lv_has ls 1 [(0, .ref (h 0))] := hl
  refine lv_aload_n hx hb dX1_patternLength_0 rfl (lv_at hl 0 rfl) ?_
  refine yg_siz C w dX1_patternLength_1 ?_
  exact om_iret (vl, bs, n, k) C hr hlocks w (⟨rfl, rfl, rfl, rfl⟩) dX1_patternLength_4
set_option maxHeartbeats 4000000 in
set_option maxRecDepth 100000 in
/-- valueAt of the model -/
theorem mY_valueAt (l : Launch) (D : va_G) (d : ClassId) (h : Nat → Nat) (vl bs : Nat → Int32) (n k : Nat) (q : Int32) (hn : n ≤ 60) (hk : k ≤ 10) : om_Mi l yX1_valueAt cX1_valueAt 2 (some .int) { frames := 0, cells := 0, slots := 0, locals := 0 } D d [.ref (h 0), .int q] (om_Y h d vl bs (nI n) (nI k)) (fun (r : Int32) (u : om_T) => u.1 = vl ∧ u.2.2.1 = n ∧ u.2.2.2 = k ∧ r = om_rng 0 ((n : Int) - 1) q.toInt (nI 0) vl) (om_Yu h d) := by
  intro sz
  refine om_enter (by decide) (Nat.le_of_ble_eq_true rfl) ?_
  intro p e s m below meth c ls C hr hlocks w hl
  generalize va_A (om_Y h d vl bs (nI n) (nI k)) sz = A at C w ⊢
  have C : om_C p m c cX1_valueAt 2 s _ RX1 D d A := C
  have hx := C.1.1
  have hb := C.1.2.1
  have hl : lv_has ls 2 [(0, .ref (h 0)), (1, .int q)] := hl
  refine lv_iload_n hx hb dX1_valueAt_0 rfl (lv_at hl 1 rfl) ?_
  refine lv_if_lt (tgt := 12) hx hb dX1_valueAt_1 (by decide) (fun c_1 => ?_) (fun c_1 => ?_)
  · refine lv_iconst (v := nI 0) hx hb dX1_valueAt_12 (by decide) ?_
    refine lv_goto (tgt := 22) hx hb dX1_valueAt_13 (by decide) ?_
    exact om_iret (vl, bs, n, k) C hr hlocks w (⟨rfl, rfl, rfl, om_rng_b (Or.inl (om_neg c_1))⟩) dX1_valueAt_22
  · obtain ⟨y, hy, rfl⟩ := nI_of c_1
    refine lv_iload_n hx hb dX1_valueAt_4 rfl (lv_at hl 1 rfl) ?_
    refine lv_aload_n hx hb dX1_valueAt_5 rfl (lv_at hl 0 rfl) ?_
    refine yg_len C w dX1_valueAt_6 ?_
    refine om_icmp_lt (tgt := 16) hx hb dX1_valueAt_9 (by decide) (by omega) (by omega) (fun c_9 => ?_) (fun c_9 => ?_)
    · refine lv_aload_n hx hb dX1_valueAt_16 rfl (lv_at hl 0 rfl) ?_
      refine yg_vl C w dX1_valueAt_17 ?_
      refine lv_iload_n hx hb dX1_valueAt_20 rfl (lv_at hl 1 rfl) ?_
      refine yl_vl C w (i := y) (by omega) dX1_valueAt_21 ?_
      exact om_iret (vl, bs, n, k) C hr hlocks w (⟨rfl, rfl, rfl, om_rng_g hy (by omega) (by omega)⟩) dX1_valueAt_22
    · refine lv_iconst (v := nI 0) hx hb dX1_valueAt_12 (by decide) ?_
      refine lv_goto (tgt := 22) hx hb dX1_valueAt_13 (by decide) ?_
      exact om_iret (vl, bs, n, k) C hr hlocks w (⟨rfl, rfl, rfl, om_rng_h hy (by omega)⟩) dX1_valueAt_22
end
section
set_option maxHeartbeats 4000000 in
set_option maxRecDepth 100000 in
/-- occurrences of the model -/
theorem mY_occurrences (l : Launch) (D : va_G) (d : ClassId) (h : Nat → Nat) (vl bs : Nat → Int32) (n k : Nat) (hn : n ≤ 60) (hk : k ≤ 10) : om_Mi l yX1_occurrences cX1_occurrences 3 (some .int) { frames := 3, cells := 0, slots := 0, locals := 90 } D d [.ref (h 0)] (om_Y h d vl bs (nI n) (nI k)) (fun (r : Int32) (u : om_T) => u.1 = vl ∧ u.2.2.1 = n ∧ u.2.2.2 = k ∧ r = nI (om_cnt (om_oc vl (om_pt vl) n k) n)) (om_Yu h d) := by
  intro sz
  refine om_enter (by decide) (Nat.le_of_ble_eq_true rfl) ?_
  intro p e s m below meth c ls C hr hlocks w hl
  generalize va_A (om_Y h d vl bs (nI n) (nI k)) sz = A at C w ⊢
  have C : om_C p m c cX1_occurrences 3 s _ RX1 D d A := C
  have hx := C.1.1
  have hb := C.1.2.1
  have hl : lv_has ls 3 [(0, .ref (h 0))] := hl
  refine lv_iconst (v := nI 0) hx hb dX1_occurrences_0 (by decide) ?_
  refine lv_istore_n (lv' := [(1, .int (nI 0)), (0, .ref (h 0))]) hx hb dX1_occurrences_1 rfl hl (by decide) rfl (fun ls hl => ?_)
  refine lv_iconst (v := nI 0) hx hb dX1_occurrences_2 (by decide) ?_
  refine lv_istore_n (lv' := [(2, .int (nI 0)), (1, .int (nI 0)), (0, .ref (h 0))]) hx hb dX1_occurrences_3 rfl hl (by decide) rfl (fun ls hl => ?_)
  refine om_loop2 (α := Nat) (β := Nat) (I := fun x sm H locs ls => (x ≤ n) ∧ (sm = om_cnt (om_oc vl (om_pt vl) n k) x) ∧ om_H D A s (om_Y h d vl bs (nI n) (nI k)) H locs ∧ lv_has ls 3 [(0, .ref (h 0)), (1, .int (nI sm)), (2, .int (nI x))]) (μ := fun x sm => n - x) ?_ 0 0 _ _ _ ⟨Nat.zero_le _, rfl, w, lv_sub hl [2, 1, 0] rfl⟩
  intro x sm H locs ls hI ih_4
  obtain ⟨hxn, hsm, w, hl⟩ := hI
  refine lv_iload_n hx hb dX1_occurrences_4 rfl (lv_at hl 2 rfl) ?_
  refine lv_aload_n hx hb dX1_occurrences_5 rfl (lv_at hl 0 rfl) ?_
  refine yg_len C w dX1_occurrences_6 ?_
  refine om_icmp_ge (tgt := 29) hx hb dX1_occurrences_9 (by decide) (by omega) (by omega) (fun c_9 => ?_) (fun c_9 => ?_)
  · refine lv_iload_n hx hb dX1_occurrences_29 rfl (lv_at hl 1 rfl) ?_
    exact om_iret (vl, bs, n, k) C hr hlocks w (⟨rfl, rfl, rfl, (by rw [hsm, show x = n by omega])⟩) dX1_occurrences_30
  · refine lv_aload_n hx hb dX1_occurrences_12 rfl (lv_at hl 0 rfl) ?_
    refine lv_iload_n hx hb dX1_occurrences_13 rfl (lv_at hl 2 rfl) ?_
    refine om_calli (Wr := []) (As := [.int (nI x)]) (rest := []) C w (mY_occurs l D d h vl bs n k (nI x) hn hk) [0, 1, 2] [] rfl rfl rfl rfl (by decide) rfl rfl (cwV 1 C.1.2.2.2.2 (lw_V q226 q228 qs8 q14 q229) rfl rfl rfl (by decide +kernel) ⟨Nat.le_of_ble_eq_true rfl, Nat.le_of_ble_eq_true rfl⟩) rfl hl.1 rfl (Nat.le_of_ble_eq_true rfl) dX1_occurrences_14 ⟨Nat.zero_le _, Nat.zero_le _⟩ (fun r_2 u_2 H locs hp_2 w => ?_)
    have hp_2 : r_2 = bI (om_oc vl (om_pt vl) n k x) := (show r_2 = _ from hp_2).trans (om_ocr (by omega))
    subst hp_2
    have w : om_H D A s (om_Y h d vl bs (nI n) (nI k)) H locs := w
    refine om_if_eqB (tgt := 23) hx hb dX1_occurrences_17 (by decide) (fun c_17 => ?_) (fun c_17 => ?_)
    · have hs2 : sm = om_cnt (om_oc vl (om_pt vl) n k) (x + 1) := by rw [om_cnt_f c_17]; exact hsm
      refine lv_iinc (v := nI (x + 1)) (lv' := [(2, .int (nI (x + 1))), (0, .ref (h 0)), (1, .int (nI sm))]) hx hb dX1_occurrences_23 hl (k := 2) rfl (nI_add _ 1) (by decide) rfl (fun ls hl => ?_)
      refine lv_goto (tgt := 4) hx hb dX1_occurrences_26 (by decide) ?_
      exact ih_4 (x + 1) sm _ _ _ (by first | omega | (dsimp only; omega)) ⟨by omega, hs2, w, lv_sub hl [1, 2, 0] rfl⟩
    · have hs2 : sm + 1 = om_cnt (om_oc vl (om_pt vl) n k) (x + 1) := by rw [om_cnt_t c_17, hsm]
      refine lv_iinc (v := nI (sm + 1)) (lv' := [(1, .int (nI (sm + 1))), (0, .ref (h 0)), (2, .int (nI x))]) hx hb dX1_occurrences_20 hl (k := 1) rfl (nI_add _ 1) (by decide) rfl (fun ls hl => ?_)
      refine lv_iinc (v := nI (x + 1)) (lv' := [(2, .int (nI (x + 1))), (1, .int (nI (sm + 1))), (0, .ref (h 0))]) hx hb dX1_occurrences_23 hl (k := 2) rfl (nI_add _ 1) (by decide) rfl (fun ls hl => ?_)
      refine lv_goto (tgt := 4) hx hb dX1_occurrences_26 (by decide) ?_
      exact ih_4 (x + 1) (sm + 1) _ _ _ (by first | omega | (dsimp only; omega)) ⟨by omega, hs2, w, lv_sub hl [2, 1, 0] rfl⟩
set_option maxHeartbeats 4000000 in
set_option maxRecDepth 100000 in
/-- occurrence of the model -/
theorem mY_occurrence (l : Launch) (D : va_G) (d : ClassId) (h : Nat → Nat) (vl bs : Nat → Int32) (n k : Nat) (q : Int32) (hn : n ≤ 60) (hk : k ≤ 10) : om_Mi l yX1_occurrence cX1_occurrence 4 (some .int) { frames := 3, cells := 0, slots := 0, locals := 90 } D d [.ref (h 0), .int q] (om_Y h d vl bs (nI n) (nI k)) (fun (r : Int32) (u : om_T) => u.1 = vl ∧ u.2.2.1 = n ∧ u.2.2.2 = k ∧ om_nth (om_oc vl (om_pt vl) n k) n q r) (om_Yu h d) := by
  intro sz
  refine om_enter (by decide) (Nat.le_of_ble_eq_true rfl) ?_
  intro p e s m below meth c ls C hr hlocks w hl
  generalize va_A (om_Y h d vl bs (nI n) (nI k)) sz = A at C w ⊢
  have C : om_C p m c cX1_occurrence 4 s _ RX1 D d A := C
  have hx := C.1.1
  have hb := C.1.2.1
  have hl : lv_has ls 4 [(0, .ref (h 0)), (1, .int q)] := hl
  refine lv_iconst (v := nI 0) hx hb dX1_occurrence_0 (by decide) ?_
  refine lv_istore_n (lv' := [(2, .int (nI 0)), (0, .ref (h 0)), (1, .int q)]) hx hb dX1_occurrence_1 rfl hl (by decide) rfl (fun ls hl => ?_)
  refine lv_iconst (v := nI 0) hx hb dX1_occurrence_2 (by decide) ?_
  refine lv_istore_n (lv' := [(3, .int (nI 0)), (2, .int (nI 0)), (0, .ref (h 0)), (1, .int q)]) hx hb dX1_occurrence_3 rfl hl (by decide) rfl (fun ls hl => ?_)
  refine om_loop2 (α := Nat) (β := Nat) (I := fun x sm H locs ls => (x ≤ n) ∧ (sm = om_cnt (om_oc vl (om_pt vl) n k) x) ∧ (∀ t, t < x → om_oc vl (om_pt vl) n k t = true → ¬ q = nI (om_cnt (om_oc vl (om_pt vl) n k) t)) ∧ om_H D A s (om_Y h d vl bs (nI n) (nI k)) H locs ∧ lv_has ls 4 [(0, .ref (h 0)), (1, .int q), (2, .int (nI sm)), (3, .int (nI x))]) (μ := fun x sm => n - x) ?_ 0 0 _ _ _ ⟨Nat.zero_le _, rfl, lt_0, w, lv_sub hl [2, 3, 1, 0] rfl⟩
  intro x sm H locs ls hI ih_4
  obtain ⟨hxn, hsm, hno, w, hl⟩ := hI
  refine lv_iload_n hx hb dX1_occurrence_4 rfl (lv_at hl 3 rfl) ?_
  refine lv_aload_n hx hb dX1_occurrence_5 rfl (lv_at hl 0 rfl) ?_
  refine yg_len C w dX1_occurrence_6 ?_
  refine om_icmp_ge (tgt := 36) hx hb dX1_occurrence_9 (by decide) (by omega) (by omega) (fun c_9 => ?_) (fun c_9 => ?_)
  · refine lv_iconst (v := (-1)) hx hb dX1_occurrence_36 (by decide) ?_
    exact om_iret (vl, bs, n, k) C hr hlocks w (⟨rfl, rfl, rfl, Or.inr ⟨rfl, fun t ht => hno t (by omega)⟩⟩) dX1_occurrence_37
  · refine lv_aload_n hx hb dX1_occurrence_12 rfl (lv_at hl 0 rfl) ?_
    refine lv_iload_n hx hb dX1_occurrence_13 rfl (lv_at hl 3 rfl) ?_
    refine om_calli (Wr := []) (As := [.int (nI x)]) (rest := []) C w (mY_occurs l D d h vl bs n k (nI x) hn hk) [0, 1, 2] [] rfl rfl rfl rfl (by decide) rfl rfl (cwV 1 C.1.2.2.2.2 (lw_V q226 q228 qs8 q14 q229) rfl rfl rfl (by decide +kernel) ⟨Nat.le_of_ble_eq_true rfl, Nat.le_of_ble_eq_true rfl⟩) rfl hl.1 rfl (Nat.le_of_ble_eq_true rfl) dX1_occurrence_14 ⟨Nat.zero_le _, Nat.zero_le _⟩ (fun r_2 u_2 H locs hp_2 w => ?_)
    have hp_2 : r_2 = bI (om_oc vl (om_pt vl) n k x) := (show r_2 = _ from hp_2).trans (om_ocr (by omega))
    subst hp_2
    have w : om_H D A s (om_Y h d vl bs (nI n) (nI k)) H locs := w
    refine om_if_eqB (tgt := 30) hx hb dX1_occurrence_17 (by decide) (fun c_17 => ?_) (fun c_17 => ?_)
    · have hs2 : sm = om_cnt (om_oc vl (om_pt vl) n k) (x + 1) := by rw [om_cnt_f c_17]; exact hsm
      have hn2 := lt_s hno (fun z => by rw [c_17] at z; cases z)
      refine lv_iinc (v := nI (x + 1)) (lv' := [(3, .int (nI (x + 1))), (0, .ref (h 0)), (1, .int q), (2, .int (nI sm))]) hx hb dX1_occurrence_30 hl (k := 3) rfl (nI_add _ 1) (by decide) rfl (fun ls hl => ?_)
      refine lv_goto (tgt := 4) hx hb dX1_occurrence_33 (by decide) ?_
      exact ih_4 (x + 1) sm _ _ _ (by first | omega | (dsimp only; omega)) ⟨by omega, hs2, hn2, w, lv_sub hl [1, 2, 3, 0] rfl⟩
    · refine lv_iload_n hx hb dX1_occurrence_20 rfl (lv_at hl 2 rfl) ?_
      refine lv_iload_n hx hb dX1_occurrence_21 rfl (lv_at hl 1 rfl) ?_
      refine lv_icmp_ne (tgt := 27) hx hb dX1_occurrence_22 (by decide) (fun c_22 => ?_) (fun c_22 => ?_)
      · have hs2 : sm + 1 = om_cnt (om_oc vl (om_pt vl) n k) (x + 1) := by rw [om_cnt_t c_17, hsm]
        have hn2 := lt_s hno (fun _ e => c_22 (by rw [hsm]; exact e.symm))
        refine lv_iinc (v := nI (sm + 1)) (lv' := [(2, .int (nI (sm + 1))), (0, .ref (h 0)), (1, .int q), (3, .int (nI x))]) hx hb dX1_occurrence_27 hl (k := 2) rfl (nI_add _ 1) (by decide) rfl (fun ls hl => ?_)
        refine lv_iinc (v := nI (x + 1)) (lv' := [(3, .int (nI (x + 1))), (2, .int (nI (sm + 1))), (0, .ref (h 0)), (1, .int q)]) hx hb dX1_occurrence_30 hl (k := 3) rfl (nI_add _ 1) (by decide) rfl (fun ls hl => ?_)
        refine lv_goto (tgt := 4) hx hb dX1_occurrence_33 (by decide) ?_
        exact ih_4 (x + 1) (sm + 1) _ _ _ (by first | omega | (dsimp only; omega)) ⟨by omega, hs2, hn2, w, lv_sub hl [2, 3, 1, 0] rfl⟩
      · refine lv_iload_n hx hb dX1_occurrence_25 rfl (lv_at hl 3 rfl) ?_
        exact om_iret (vl, bs, n, k) C hr hlocks w (⟨rfl, rfl, rfl, Or.inl ⟨x, c_9, c_17, by rw [← hsm]; exact c_22.symm, rfl⟩⟩) dX1_occurrence_26
set_option maxHeartbeats 4000000 in
set_option maxRecDepth 100000 in
/-- occursAt of the model -/
theorem mY_occursAt (l : Launch) (D : va_G) (d : ClassId) (h : Nat → Nat) (vl bs : Nat → Int32) (n k : Nat) (q : Int32) (hn : n ≤ 60) (hk : k ≤ 10) : om_Mi l yX1_occursAt cX1_occursAt 2 (some .int) { frames := 3, cells := 0, slots := 0, locals := 90 } D d [.ref (h 0), .int q] (om_Y h d vl bs (nI n) (nI k)) (fun (r : Int32) (u : om_T) => u.1 = vl ∧ u.2.2.1 = n ∧ u.2.2.2 = k ∧ r = om_rng 0 (2 ^ 31) q.toInt (nI 0) (fun t => bI (om_oc vl (om_pt vl) n k t))) (om_Yu h d) := by
  intro sz
  refine om_enter (by decide) (Nat.le_of_ble_eq_true rfl) ?_
  intro p e s m below meth c ls C hr hlocks w hl
  generalize va_A (om_Y h d vl bs (nI n) (nI k)) sz = A at C w ⊢
  have C : om_C p m c cX1_occursAt 2 s _ RX1 D d A := C
  have hx := C.1.1
  have hb := C.1.2.1
  have hl : lv_has ls 2 [(0, .ref (h 0)), (1, .int q)] := hl
  refine lv_aload_n hx hb dX1_occursAt_0 rfl (lv_at hl 0 rfl) ?_
  refine lv_iload_n hx hb dX1_occursAt_1 rfl (lv_at hl 1 rfl) ?_
  refine om_calli (Wr := []) (As := [.int q]) (rest := []) C w (mY_occurs l D d h vl bs n k q hn hk) [0, 1, 2] [] rfl rfl rfl rfl (by decide) rfl rfl (cwV 1 C.1.2.2.2.2 (lw_V q226 q228 qs8 q14 q229) rfl rfl rfl (by decide +kernel) ⟨Nat.le_of_ble_eq_true rfl, Nat.le_of_ble_eq_true rfl⟩) rfl hl.1 rfl (Nat.le_of_ble_eq_true rfl) dX1_occursAt_2 ⟨Nat.zero_le _, Nat.zero_le _⟩ (fun r_1 u_1 H locs hp_1 w => ?_)
  have hp_1 : r_1 = om_rng 0 (2 ^ 31) q.toInt (nI 0) (fun t => bI (om_oc vl (om_pt vl) n k t)) := hp_1
  have w : om_H D A s (om_Y h d vl bs (nI n) (nI k)) H locs := w
  refine lv_if_eq (tgt := 12) hx hb dX1_occursAt_5 (by decide) (fun c_5 => ?_) (fun c_5 => ?_)
  · refine lv_iconst (v := nI 0) hx hb dX1_occursAt_12 (by decide) ?_
    have hb01 : om_rng 0 (2 ^ 31) q.toInt (nI 0) (fun t => bI (om_oc vl (om_pt vl) n k t)) = nI 0 ∨ om_rng 0 (2 ^ 31) q.toInt (nI 0) (fun t => bI (om_oc vl (om_pt vl) n k t)) = nI 1 := by
      unfold om_rng
      by_cases z : q.toInt < 0 ∨ 2 ^ 31 < q.toInt
      · rw [if_pos z]; exact Or.inl rfl
      · rw [if_neg z]
        show bI (om_oc vl (om_pt vl) n k q.toInt.toNat) = nI 0 ∨ bI (om_oc vl (om_pt vl) n k q.toInt.toNat) = nI 1
        cases om_oc vl (om_pt vl) n k q.toInt.toNat
        · exact Or.inl rfl
        · exact Or.inr rfl
    rw [← hp_1] at hb01
    exact om_iret (vl, bs, n, k) C hr hlocks w (⟨rfl, rfl, rfl, (c_5.trans nI_0.symm).symm.trans hp_1⟩) dX1_occursAt_13
  · refine lv_iconst (v := nI 1) hx hb dX1_occursAt_8 (by decide) ?_
    refine lv_goto (tgt := 13) hx hb dX1_occursAt_9 (by decide) ?_
    have hb01 : om_rng 0 (2 ^ 31) q.toInt (nI 0) (fun t => bI (om_oc vl (om_pt vl) n k t)) = nI 0 ∨ om_rng 0 (2 ^ 31) q.toInt (nI 0) (fun t => bI (om_oc vl (om_pt vl) n k t)) = nI 1 := by
      unfold om_rng
      by_cases z : q.toInt < 0 ∨ 2 ^ 31 < q.toInt
      · rw [if_pos z]; exact Or.inl rfl
      · rw [if_neg z]
        show bI (om_oc vl (om_pt vl) n k q.toInt.toNat) = nI 0 ∨ bI (om_oc vl (om_pt vl) n k q.toInt.toNat) = nI 1
        cases om_oc vl (om_pt vl) n k q.toInt.toNat
        · exact Or.inl rfl
        · exact Or.inr rfl
    rw [← hp_1] at hb01
    exact om_iret (vl, bs, n, k) C hr hlocks w (⟨rfl, rfl, rfl, (hb01.resolve_left (fun z => c_5 (z.trans nI_0))).symm.trans hp_1⟩) dX1_occursAt_13
set_option maxHeartbeats 4000000 in
set_option maxRecDepth 100000 in
/-- nextFrom of the model -/
theorem mY_nextFrom (l : Launch) (D : va_G) (d : ClassId) (h : Nat → Nat) (vl bs : Nat → Int32) (n k : Nat) (q : Int32) (hn : n ≤ 60) (hk : k ≤ 10) : om_Mi l yX1_nextFrom cX1_nextFrom 3 (some .int) { frames := 3, cells := 0, slots := 0, locals := 90 } D d [.ref (h 0), .int q] (om_Y h d vl bs (nI n) (nI k)) (fun (r : Int32) (u : om_T) => u.1 = vl ∧ u.2.2.1 = n ∧ u.2.2.2 = k ∧ om_nx (om_oc vl (om_pt vl) n k) n q r) (om_Yu h d) := by
  intro sz
  refine om_enter (by decide) (Nat.le_of_ble_eq_true rfl) ?_
  intro p e s m below meth c ls C hr hlocks w hl
  generalize va_A (om_Y h d vl bs (nI n) (nI k)) sz = A at C w ⊢
  have C : om_C p m c cX1_nextFrom 3 s _ RX1 D d A := C
  have hx := C.1.1
  have hb := C.1.2.1
  have hl : lv_has ls 3 [(0, .ref (h 0)), (1, .int q)] := hl
  refine lv_iconst (v := nI 0) hx hb dX1_nextFrom_0 (by decide) ?_
  refine lv_istore_n (lv' := [(2, .int (nI 0)), (0, .ref (h 0)), (1, .int q)]) hx hb dX1_nextFrom_1 rfl hl (by decide) rfl (fun ls hl => ?_)
  refine om_loop1 (α := Nat) (I := fun x H locs ls => (x ≤ n) ∧ (∀ t, t < x → q ≤ nI t → om_oc vl (om_pt vl) n k t = false) ∧ om_H D A s (om_Y h d vl bs (nI n) (nI k)) H locs ∧ lv_has ls 3 [(0, .ref (h 0)), (1, .int q), (2, .int (nI x))]) (μ := fun x => n - x) ?_ 0 _ _ _ ⟨Nat.zero_le _, lt_0, w, lv_sub hl [1, 2, 0] rfl⟩
  intro x H locs ls hI ih_2
  obtain ⟨hxn, hno, w, hl⟩ := hI
  refine lv_iload_n hx hb dX1_nextFrom_2 rfl (lv_at hl 2 rfl) ?_
  refine lv_aload_n hx hb dX1_nextFrom_3 rfl (lv_at hl 0 rfl) ?_
  refine yg_len C w dX1_nextFrom_4 ?_
  refine om_icmp_ge (tgt := 31) hx hb dX1_nextFrom_7 (by decide) (by omega) (by omega) (fun c_7 => ?_) (fun c_7 => ?_)
  · refine lv_iconst (v := (-1)) hx hb dX1_nextFrom_31 (by decide) ?_
    exact om_iret (vl, bs, n, k) C hr hlocks w (⟨rfl, rfl, rfl, Or.inr ⟨rfl, fun t ht => hno t (by omega)⟩⟩) dX1_nextFrom_32
  · refine lv_iload_n hx hb dX1_nextFrom_10 rfl (lv_at hl 2 rfl) ?_
    refine lv_iload_n hx hb dX1_nextFrom_11 rfl (lv_at hl 1 rfl) ?_
    refine lv_icmp_lt (tgt := 25) hx hb dX1_nextFrom_12 (by decide) (fun c_12 => ?_) (fun c_12 => ?_)
    · have hn2 := lt_s hno (fun z => absurd z (om_ltn c_12))
      refine lv_iinc (v := nI (x + 1)) (lv' := [(2, .int (nI (x + 1))), (0, .ref (h 0)), (1, .int q)]) hx hb dX1_nextFrom_25 hl (k := 2) rfl (nI_add _ 1) (by decide) rfl (fun ls hl => ?_)
      refine lv_goto (tgt := 2) hx hb dX1_nextFrom_28 (by decide) ?_
      exact ih_2 (x + 1) _ _ _ (by first | omega | (dsimp only; omega)) ⟨by omega, hn2, w, lv_sub hl [1, 2, 0] rfl⟩
    · refine lv_aload_n hx hb dX1_nextFrom_15 rfl (lv_at hl 0 rfl) ?_
      refine lv_iload_n hx hb dX1_nextFrom_16 rfl (lv_at hl 2 rfl) ?_
      refine om_calli (Wr := []) (As := [.int (nI x)]) (rest := []) C w (mY_occurs l D d h vl bs n k (nI x) hn hk) [0, 1, 2] [] rfl rfl rfl rfl (by decide) rfl rfl (cwV 1 C.1.2.2.2.2 (lw_V q226 q228 qs8 q14 q229) rfl rfl rfl (by decide +kernel) ⟨Nat.le_of_ble_eq_true rfl, Nat.le_of_ble_eq_true rfl⟩) rfl hl.1 rfl (Nat.le_of_ble_eq_true rfl) dX1_nextFrom_17 ⟨Nat.zero_le _, Nat.zero_le _⟩ (fun r_2 u_2 H locs hp_2 w => ?_)
      have hp_2 : r_2 = bI (om_oc vl (om_pt vl) n k x) := (show r_2 = _ from hp_2).trans (om_ocr (by omega))
      subst hp_2
      have w : om_H D A s (om_Y h d vl bs (nI n) (nI k)) H locs := w
      refine om_if_eqB (tgt := 25) hx hb dX1_nextFrom_20 (by decide) (fun c_20 => ?_) (fun c_20 => ?_)
      · have hn2 := lt_s hno (fun _ => c_20)
        refine lv_iinc (v := nI (x + 1)) (lv' := [(2, .int (nI (x + 1))), (0, .ref (h 0)), (1, .int q)]) hx hb dX1_nextFrom_25 hl (k := 2) rfl (nI_add _ 1) (by decide) rfl (fun ls hl => ?_)
        refine lv_goto (tgt := 2) hx hb dX1_nextFrom_28 (by decide) ?_
        exact ih_2 (x + 1) _ _ _ (by first | omega | (dsimp only; omega)) ⟨by omega, hn2, w, lv_sub hl [1, 2, 0] rfl⟩
      · refine lv_iload_n hx hb dX1_nextFrom_23 rfl (lv_at hl 2 rfl) ?_
        exact om_iret (vl, bs, n, k) C hr hlocks w (⟨rfl, rfl, rfl, Or.inl ⟨x, c_7, c_20, om_lne c_12, rfl, hno⟩⟩) dX1_nextFrom_24
set_option maxHeartbeats 4000000 in
set_option maxRecDepth 100000 in
/-- matchedAt of the model -/
theorem mY_matchedAt (l : Launch) (D : va_G) (d : ClassId) (h : Nat → Nat) (vl bs : Nat → Int32) (n k : Nat) (q : Int32) (hn : n ≤ 60) (hk : k ≤ 10) : om_Mi l yX1_matchedAt cX1_matchedAt 3 (some .int) { frames := 2, cells := 0, slots := 0, locals := 60 } D d [.ref (h 0), .int q] (om_Y h d vl bs (nI n) (nI k)) (fun (r : Int32) (u : om_T) => u.1 = vl ∧ u.2.2.1 = n ∧ u.2.2.2 = k ∧ r = om_rng 0 ((n : Int) - 1) q.toInt (-1) (fun t => nI (om_mt vl (om_pt vl) k t))) (om_Yu h d) := by
  intro sz
  refine om_enter (by decide) (Nat.le_of_ble_eq_true rfl) ?_
  intro p e s m below meth c ls C hr hlocks w hl
  generalize va_A (om_Y h d vl bs (nI n) (nI k)) sz = A at C w ⊢
  have C : om_C p m c cX1_matchedAt 3 s _ RX1 D d A := C
  have hx := C.1.1
  have hb := C.1.2.1
  have hl : lv_has ls 3 [(0, .ref (h 0)), (1, .int q)] := hl
  refine lv_iload_n hx hb dX1_matchedAt_0 rfl (lv_at hl 1 rfl) ?_
  refine lv_if_lt (tgt := 12) hx hb dX1_matchedAt_1 (by decide) (fun c_1 => ?_) (fun c_1 => ?_)
  · refine lv_iconst (v := (-1)) hx hb dX1_matchedAt_12 (by decide) ?_
    exact om_iret (vl, bs, n, k) C hr hlocks w (⟨rfl, rfl, rfl, om_rng_b (Or.inl (om_neg c_1))⟩) dX1_matchedAt_13
  · obtain ⟨y, hy, rfl⟩ := nI_of c_1
    refine lv_iload_n hx hb dX1_matchedAt_4 rfl (lv_at hl 1 rfl) ?_
    refine lv_aload_n hx hb dX1_matchedAt_5 rfl (lv_at hl 0 rfl) ?_
    refine yg_len C w dX1_matchedAt_6 ?_
    refine om_icmp_lt (tgt := 14) hx hb dX1_matchedAt_9 (by decide) (by omega) (by omega) (fun c_9 => ?_) (fun c_9 => ?_)
    · refine lv_aload_n hx hb dX1_matchedAt_14 rfl (lv_at hl 0 rfl) ?_
      refine yg_siz C w dX1_matchedAt_15 ?_
      refine lv_istore_n (lv' := [(2, .int (nI k)), (0, .ref (h 0)), (1, .int (nI y))]) hx hb dX1_matchedAt_18 rfl hl (by decide) rfl (fun ls hl => ?_)
      refine om_loop1 (α := Nat) (I := fun b H locs ls => (b ≤ k) ∧ (∀ t, b < t → t ≤ k → (decide (t ≤ y + 1) && om_ap (fun i => vl (y + 1 - t + i)) (om_pt vl) t) = false) ∧ om_H D A s (om_Y h d vl bs (nI n) (nI k)) H locs ∧ lv_has ls 3 [(0, .ref (h 0)), (1, .int (nI y)), (2, .int (nI b))]) (μ := fun b => b) ?_ k _ _ _ ⟨Nat.le_refl _, (fun t t1 t2 => absurd t1 (by omega)), w, lv_sub hl [1, 2, 0] rfl⟩
      intro b H locs ls hI ih_19
      obtain ⟨hb2, hno, w, hl⟩ := hI
      refine lv_iload_n hx hb dX1_matchedAt_19 rfl (lv_at hl 2 rfl) ?_
      refine om_if_le (tgt := 53) hx hb dX1_matchedAt_20 (by decide) (by omega) (fun c_20 => ?_) (fun c_20 => ?_)
      · refine lv_iconst (v := nI 0) hx hb dX1_matchedAt_53 (by decide) ?_
        have eb : om_mt vl (om_pt vl) k y = 0 := om_lg_eq (Nat.zero_le _) (fun z => absurd z (by omega)) (fun t t1 t2 => hno t (by omega) t2)
        have eb : nI 0 = nI (om_mt vl (om_pt vl) k y) := by rw [eb]
        exact om_iret (vl, bs, n, k) C hr hlocks w (⟨rfl, rfl, rfl, eb.trans (om_rng_g (good := fun t => nI (om_mt vl (om_pt vl) k t)) hy (by omega) (by omega))⟩) dX1_matchedAt_54
      · refine lv_iload_n hx hb dX1_matchedAt_23 rfl (lv_at hl 2 rfl) ?_
        refine lv_iload_n hx hb dX1_matchedAt_24 rfl (lv_at hl 1 rfl) ?_
        refine lv_iconst (v := nI 1) hx hb dX1_matchedAt_25 (by decide) ?_
        refine om_iadd hx hb dX1_matchedAt_26 ?_
        refine om_icmp_gt (tgt := 47) hx hb dX1_matchedAt_27 (by decide) (by omega) (by omega) (fun c_27 => ?_) (fun c_27 => ?_)
        · have hf : (decide (b ≤ y + 1) && om_ap (fun i => vl (y + 1 - b + i)) (om_pt vl) b) = false := by rw [decide_eq_false (show ¬ b ≤ y + 1 by omega)]; exact Bool.false_and _
          refine lv_iinc (v := nI (b - 1)) (lv' := [(2, .int (nI (b - 1))), (0, .ref (h 0)), (1, .int (nI y))]) hx hb dX1_matchedAt_47 hl (k := 2) rfl (sb_m1 c_20) (by decide) rfl (fun ls hl => ?_)
          refine lv_goto (tgt := 19) hx hb dX1_matchedAt_50 (by decide) ?_
          exact ih_19 (b - 1) _ _ _ (by first | omega | (dsimp only; omega)) ⟨by omega, (fun t t1 t2 => by
                                                  rcases Nat.lt_or_ge b t with z | z
                                                  · exact hno t z t2
                                                  · rw [show t = b by omega]; exact hf), w, lv_sub hl [1, 2, 0] rfl⟩
        · refine lv_aload_n hx hb dX1_matchedAt_30 rfl (lv_at hl 0 rfl) ?_
          refine lv_iload_n hx hb dX1_matchedAt_31 rfl (lv_at hl 1 rfl) ?_
          refine lv_iconst (v := nI 1) hx hb dX1_matchedAt_32 (by decide) ?_
          refine om_iadd hx hb dX1_matchedAt_33 ?_
          refine lv_iload_n hx hb dX1_matchedAt_34 rfl (lv_at hl 2 rfl) ?_
          refine om_isub hx hb (by omega) dX1_matchedAt_35 ?_
          refine lv_bipush (v := nI 60) hx hb dX1_matchedAt_36 (by decide) ?_
          refine lv_iload_n hx hb dX1_matchedAt_38 rfl (lv_at hl 2 rfl) ?_
          refine om_calli (Wr := []) (As := [.int (nI ((y + 1) - b)), .int (nI 60), .int (nI b)]) (rest := []) C w (mY_alike l D d h vl bs (nI n) (nI k) ((y + 1) - b) 60 b (by omega) (by omega)) [0, 1, 2] [] rfl rfl rfl rfl (by decide) rfl rfl (cwV 3 C.1.2.2.2.2 (lw_V q230 q232 qs9 q14 q233) rfl rfl rfl (by decide +kernel) ⟨Nat.le_of_ble_eq_true rfl, Nat.le_of_ble_eq_true rfl⟩) rfl hl.1 rfl (Nat.le_of_ble_eq_true rfl) dX1_matchedAt_39 ⟨Nat.zero_le _, Nat.zero_le _⟩ (fun r_2 u_2 H locs hp_2 w => ?_)
          have hp_2 : r_2 = bI (om_ap (fun i => vl ((y + 1) - b + i)) (fun i => vl (60 + i)) b) := hp_2
          subst hp_2
          have w : om_H D A s (om_Y h d vl bs (nI n) (nI k)) H locs := w
          refine om_if_eqB (tgt := 47) hx hb dX1_matchedAt_42 (by decide) (fun c_42 => ?_) (fun c_42 => ?_)
          · have hf : (decide (b ≤ y + 1) && om_ap (fun i => vl (y + 1 - b + i)) (om_pt vl) b) = false := by rw [show om_ap (fun i => vl (y + 1 - b + i)) (om_pt vl) b = false from c_42]; exact Bool.and_false _
            refine lv_iinc (v := nI (b - 1)) (lv' := [(2, .int (nI (b - 1))), (0, .ref (h 0)), (1, .int (nI y))]) hx hb dX1_matchedAt_47 hl (k := 2) rfl (sb_m1 c_20) (by decide) rfl (fun ls hl => ?_)
            refine lv_goto (tgt := 19) hx hb dX1_matchedAt_50 (by decide) ?_
            exact ih_19 (b - 1) _ _ _ (by first | omega | (dsimp only; omega)) ⟨by omega, (fun t t1 t2 => by
                                                    rcases Nat.lt_or_ge b t with z | z
                                                    · exact hno t z t2
                                                    · rw [show t = b by omega]; exact hf), w, lv_sub hl [1, 2, 0] rfl⟩
          · refine lv_iload_n hx hb dX1_matchedAt_45 rfl (lv_at hl 2 rfl) ?_
            have eb : om_mt vl (om_pt vl) k y = b := om_lg_eq hb2 (fun _ => by rw [Bool.and_eq_true, decide_eq_true_eq]; exact ⟨c_27, c_42⟩) hno
            have eb : nI b = nI (om_mt vl (om_pt vl) k y) := by rw [eb]
            exact om_iret (vl, bs, n, k) C hr hlocks w (⟨rfl, rfl, rfl, eb.trans (om_rng_g (good := fun t => nI (om_mt vl (om_pt vl) k t)) hy (by omega) (by omega))⟩) dX1_matchedAt_46
    · refine lv_iconst (v := (-1)) hx hb dX1_matchedAt_12 (by decide) ?_
      exact om_iret (vl, bs, n, k) C hr hlocks w (⟨rfl, rfl, rfl, om_rng_h hy (by omega)⟩) dX1_matchedAt_13
set_option maxHeartbeats 4000000 in
set_option maxRecDepth 100000 in
/-- border of the model -/
theorem mY_border (l : Launch) (D : va_G) (d : ClassId) (h : Nat → Nat) (vl bs : Nat → Int32) (n k : Nat) (q : Int32) (hn : n ≤ 60) (hk : k ≤ 10) : om_Mi l yX1_border cX1_border 2 (some .int) { frames := 3, cells := 0, slots := 0, locals := 90 } D d [.ref (h 0), .int q] (om_Y h d vl bs (nI n) (nI k)) (fun (r : Int32) (u : om_T) => u.1 = vl ∧ u.2.2.1 = n ∧ u.2.2.2 = k ∧ r = om_rng 1 (k : Int) q.toInt (-1) (fun t => nI (om_wd (om_pt vl) t))) (om_Yu h d) := by
  intro sz
  refine om_enter (by decide) (Nat.le_of_ble_eq_true rfl) ?_
  intro p e s m below meth c ls C hr hlocks w hl
  generalize va_A (om_Y h d vl bs (nI n) (nI k)) sz = A at C w ⊢
  have C : om_C p m c cX1_border 2 s _ RX1 D d A := C
  have hx := C.1.1
  have hb := C.1.2.1
  have hl : lv_has ls 2 [(0, .ref (h 0)), (1, .int q)] := hl
  refine lv_iload_n hx hb dX1_border_0 rfl (lv_at hl 1 rfl) ?_
  refine lv_iconst (v := nI 1) hx hb dX1_border_1 (by decide) ?_
  refine lv_icmp_lt (tgt := 13) hx hb dX1_border_2 (by decide) (fun c_2 => ?_) (fun c_2 => ?_)
  · refine lv_iconst (v := (-1)) hx hb dX1_border_13 (by decide) ?_
    refine lv_goto (tgt := 22) hx hb dX1_border_14 (by decide) ?_
    exact om_iret (vl, bs, n, k) C hr hlocks w (⟨rfl, rfl, rfl, om_rng_b (Or.inl (om_lt1 c_2))⟩) dX1_border_22
  · obtain ⟨y, hy1, hy, rfl⟩ := om_ge1 c_2
    refine lv_iload_n hx hb dX1_border_5 rfl (lv_at hl 1 rfl) ?_
    refine lv_aload_n hx hb dX1_border_6 rfl (lv_at hl 0 rfl) ?_
    refine yg_siz C w dX1_border_7 ?_
    refine om_icmp_le (tgt := 17) hx hb dX1_border_10 (by decide) (by omega) (by omega) (fun c_10 => ?_) (fun c_10 => ?_)
    · refine lv_aload_n hx hb dX1_border_17 rfl (lv_at hl 0 rfl) ?_
      refine lv_iload_n hx hb dX1_border_18 rfl (lv_at hl 1 rfl) ?_
      refine om_calli (Wr := []) (As := [.int (nI y)]) (rest := []) C w (mY_widest l D d h vl bs n k y (by omega) (by omega)) [0, 1, 2] [] rfl rfl rfl rfl (by decide) rfl rfl (cwV 1 C.1.2.2.2.2 (lw_V q258 q260 qs11 q14 q261) rfl rfl rfl (by decide +kernel) ⟨Nat.le_of_ble_eq_true rfl, Nat.le_of_ble_eq_true rfl⟩) rfl hl.1 rfl (Nat.le_of_ble_eq_true rfl) dX1_border_19 ⟨Nat.zero_le _, Nat.zero_le _⟩ (fun r_1 u_1 H locs hp_1 w => ?_)
      have hp_1 : r_1 = nI (om_wd (om_pt vl) y) := hp_1
      subst hp_1
      have w : om_H D A s (om_Y h d vl bs (nI n) (nI k)) H locs := w
      exact om_iret (vl, bs, n, k) C hr hlocks w (⟨rfl, rfl, rfl, om_rng_g (good := fun t => nI (om_wd (om_pt vl) t)) hy (by omega) (by omega)⟩) dX1_border_22
    · refine lv_iconst (v := (-1)) hx hb dX1_border_13 (by decide) ?_
      refine lv_goto (tgt := 22) hx hb dX1_border_14 (by decide) ?_
      exact om_iret (vl, bs, n, k) C hr hlocks w (⟨rfl, rfl, rfl, om_rng_h hy (by omega)⟩) dX1_border_22
set_option maxHeartbeats 4000000 in
set_option maxRecDepth 100000 in
/-- period of the model -/
theorem mY_period (l : Launch) (D : va_G) (d : ClassId) (h : Nat → Nat) (vl bs : Nat → Int32) (n k : Nat) (hn : n ≤ 60) (hk : k ≤ 10) : om_Mi l yX1_period cX1_period 2 (some .int) { frames := 2, cells := 0, slots := 0, locals := 60 } D d [.ref (h 0)] (om_Y h d vl bs (nI n) (nI k)) (fun (r : Int32) (u : om_T) => u.1 = vl ∧ u.2.2.1 = n ∧ u.2.2.2 = k ∧ r = nI (k - om_wd (om_pt vl) k)) (om_Yu h d) := by
  intro sz
  refine om_enter (by decide) (Nat.le_of_ble_eq_true rfl) ?_
  intro p e s m below meth c ls C hr hlocks w hl
  generalize va_A (om_Y h d vl bs (nI n) (nI k)) sz = A at C w ⊢
  have C : om_C p m c cX1_period 2 s _ RX1 D d A := C
  have hx := C.1.1
  have hb := C.1.2.1
  have hl : lv_has ls 2 [(0, .ref (h 0))] := hl
  refine lv_iconst (v := nI 1) hx hb dX1_period_0 (by decide) ?_
  refine lv_istore_n (lv' := [(1, .int (nI 1)), (0, .ref (h 0))]) hx hb dX1_period_1 rfl hl (by decide) rfl (fun ls hl => ?_)
  have hcg : ∀ t, om_ap (fun i => vl (60 + t + i)) (fun i => vl (60 + i)) (k - t) = om_ap (fun i => om_pt vl (t + i)) (om_pt vl) (k - t) := fun t => om_ap_congr (fun i _ => by show vl (60 + t + i) = vl (60 + (t + i)); congr 1; omega) (fun i _ => rfl)
  refine om_loop1 (α := Nat) (I := fun z H locs ls => (1 ≤ z) ∧ (z ≤ k + 1) ∧ (∀ t, 1 ≤ t → t < z → om_ap (fun i => om_pt vl (t + i)) (om_pt vl) (k - t) = false) ∧ om_H D A s (om_Y h d vl bs (nI n) (nI k)) H locs ∧ lv_has ls 2 [(0, .ref (h 0)), (1, .int (nI z))]) (μ := fun z => k + 1 - z) ?_ 1 _ _ _ ⟨Nat.le_refl _, (by omega), (fun t t1 t2 => absurd t1 (by omega)), w, lv_sub hl [1, 0] rfl⟩
  intro z H locs ls hI ih_2
  obtain ⟨hz1, hz2, hno, w, hl⟩ := hI
  refine lv_iload_n hx hb dX1_period_2 rfl (lv_at hl 1 rfl) ?_
  refine lv_aload_n hx hb dX1_period_3 rfl (lv_at hl 0 rfl) ?_
  refine yg_siz C w dX1_period_4 ?_
  refine om_icmp_gt (tgt := 37) hx hb dX1_period_7 (by decide) (by omega) (by omega) (fun c_7 => ?_) (fun c_7 => ?_)
  · refine lv_iconst (v := nI 0) hx hb dX1_period_37 (by decide) ?_
    have ek : k = 0 := by
      rcases Nat.eq_zero_or_pos k with y | y
      · exact y
      · have a := hno k y (by omega)
        rw [Nat.sub_self, om_ap_0] at a
        cases a
    exact om_iret (vl, bs, n, k) C hr hlocks w (⟨rfl, rfl, rfl, (by rw [ek, Nat.zero_sub])⟩) dX1_period_38
  · refine lv_aload_n hx hb dX1_period_10 rfl (lv_at hl 0 rfl) ?_
    refine lv_bipush (v := nI 60) hx hb dX1_period_11 (by decide) ?_
    refine lv_iload_n hx hb dX1_period_13 rfl (lv_at hl 1 rfl) ?_
    refine om_iadd hx hb dX1_period_14 ?_
    refine lv_bipush (v := nI 60) hx hb dX1_period_15 (by decide) ?_
    refine lv_aload_n hx hb dX1_period_17 rfl (lv_at hl 0 rfl) ?_
    refine yg_siz C w dX1_period_18 ?_
    refine lv_iload_n hx hb dX1_period_21 rfl (lv_at hl 1 rfl) ?_
    refine om_isub hx hb (by omega) dX1_period_22 ?_
    refine om_calli (Wr := []) (As := [.int (nI (60 + z)), .int (nI 60), .int (nI (k - z))]) (rest := []) C w (mY_alike l D d h vl bs (nI n) (nI k) (60 + z) 60 (k - z) (by omega) (by omega)) [0, 1, 2] [] rfl rfl rfl rfl (by decide) rfl rfl (cwV 3 C.1.2.2.2.2 (lw_V q230 q232 qs9 q14 q233) rfl rfl rfl (by decide +kernel) ⟨Nat.le_of_ble_eq_true rfl, Nat.le_of_ble_eq_true rfl⟩) rfl hl.1 rfl (Nat.le_of_ble_eq_true rfl) dX1_period_23 ⟨Nat.zero_le _, Nat.zero_le _⟩ (fun r_2 u_2 H locs hp_2 w => ?_)
    have hp_2 : r_2 = bI (om_ap (fun i => vl (60 + z + i)) (fun i => vl (60 + i)) (k - z)) := hp_2
    subst hp_2
    have w : om_H D A s (om_Y h d vl bs (nI n) (nI k)) H locs := w
    refine om_if_eqB (tgt := 31) hx hb dX1_period_26 (by decide) (fun c_26 => ?_) (fun c_26 => ?_)
    · rw [hcg z] at c_26
      refine lv_iinc (v := nI (z + 1)) (lv' := [(1, .int (nI (z + 1))), (0, .ref (h 0))]) hx hb dX1_period_31 hl (k := 1) rfl (nI_add _ 1) (by decide) rfl (fun ls hl => ?_)
      refine lv_goto (tgt := 2) hx hb dX1_period_34 (by decide) ?_
      exact ih_2 (z + 1) _ _ _ (by first | omega | (dsimp only; omega)) ⟨by omega, by omega, (fun t t1 t2 => by
                                              rcases Nat.lt_or_ge t z with y | y
                                              · exact hno t t1 y
                                              · rw [show t = z by omega]; exact c_26), w, lv_sub hl [1, 0] rfl⟩
    · rw [hcg z] at c_26
      refine lv_iload_n hx hb dX1_period_29 rfl (lv_at hl 1 rfl) ?_
      exact om_iret (vl, bs, n, k) C hr hlocks w (⟨rfl, rfl, rfl, (by rw [om_per hz1 c_7 c_26 hno])⟩) dX1_period_30
set_option maxHeartbeats 4000000 in
set_option maxRecDepth 100000 in
/-- rank of the model -/
theorem mY_rank (l : Launch) (D : va_G) (d : ClassId) (h : Nat → Nat) (vl bs : Nat → Int32) (n k : Nat) (q : Int32) (hn : n ≤ 60) (hk : k ≤ 10) : om_Mi l yX1_rank cX1_rank 5 (some .int) { frames := 1, cells := 0, slots := 0, locals := 30 } D d [.ref (h 0), .int q] (om_Y h d vl bs (nI n) (nI k)) (fun (r : Int32) (u : om_T) => u.1 = vl ∧ u.2.2.1 = n ∧ u.2.2.2 = k ∧ r = om_rng 0 ((k : Int) - 1) q.toInt (-1) (fun t => nI (om_rk (om_pt vl) t t))) (om_Yu h d) := by
  intro sz
  refine om_enter (by decide) (Nat.le_of_ble_eq_true rfl) ?_
  intro p e s m below meth c ls C hr hlocks w hl
  generalize va_A (om_Y h d vl bs (nI n) (nI k)) sz = A at C w ⊢
  have C : om_C p m c cX1_rank 5 s _ RX1 D d A := C
  have hx := C.1.1
  have hb := C.1.2.1
  have hl : lv_has ls 5 [(0, .ref (h 0)), (1, .int q)] := hl
  refine lv_iload_n hx hb dX1_rank_0 rfl (lv_at hl 1 rfl) ?_
  refine lv_if_lt (tgt := 12) hx hb dX1_rank_1 (by decide) (fun c_1 => ?_) (fun c_1 => ?_)
  · refine lv_iconst (v := (-1)) hx hb dX1_rank_12 (by decide) ?_
    exact om_iret (vl, bs, n, k) C hr hlocks w (⟨rfl, rfl, rfl, om_rng_b (Or.inl (om_neg c_1))⟩) dX1_rank_13
  · obtain ⟨y, hy, rfl⟩ := nI_of c_1
    refine lv_iload_n hx hb dX1_rank_4 rfl (lv_at hl 1 rfl) ?_
    refine lv_aload_n hx hb dX1_rank_5 rfl (lv_at hl 0 rfl) ?_
    refine yg_siz C w dX1_rank_6 ?_
    refine om_icmp_lt (tgt := 14) hx hb dX1_rank_9 (by decide) (by omega) (by omega) (fun c_9 => ?_) (fun c_9 => ?_)
    · refine lv_iconst (v := nI 0) hx hb dX1_rank_14 (by decide) ?_
      refine lv_istore_n (lv' := [(2, .int (nI 0)), (0, .ref (h 0)), (1, .int (nI y))]) hx hb dX1_rank_15 rfl hl (by decide) rfl (fun ls hl => ?_)
      refine lv_iconst (v := nI 0) hx hb dX1_rank_16 (by decide) ?_
      refine lv_istore_n (lv' := [(3, .int (nI 0)), (2, .int (nI 0)), (0, .ref (h 0)), (1, .int (nI y))]) hx hb dX1_rank_17 rfl hl (by decide) rfl (fun ls hl => ?_)
      refine om_loop2 (α := Nat) (β := Nat) (I := fun x sm H locs ls => (x ≤ y) ∧ (sm = om_rk (om_pt vl) y x) ∧ om_H D A s (om_Y h d vl bs (nI n) (nI k)) H locs ∧ lv_has ls 5 [(0, .ref (h 0)), (1, .int (nI y)), (2, .int (nI sm)), (3, .int (nI x))]) (μ := fun x sm => y - x) ?_ 0 0 _ _ _ ⟨Nat.zero_le _, rfl, w, lv_sub hl [2, 3, 1, 0] rfl⟩
      intro x sm H locs ls hI ih_18
      obtain ⟨hxn, hrk, w, hl⟩ := hI
      refine lv_iload_n hx hb dX1_rank_18 rfl (lv_at hl 3 rfl) ?_
      refine lv_iload_n hx hb dX1_rank_19 rfl (lv_at hl 1 rfl) ?_
      refine om_icmp_ge (tgt := 59) hx hb dX1_rank_20 (by decide) (by omega) (by omega) (fun c_20 => ?_) (fun c_20 => ?_)
      · refine lv_iload_n hx hb dX1_rank_59 rfl (lv_at hl 2 rfl) ?_
        have ez : nI sm = nI (om_rk (om_pt vl) y y) := by rw [hrk, show x = y by omega]
        exact om_iret (vl, bs, n, k) C hr hlocks w (⟨rfl, rfl, rfl, ez.trans (om_rng_g (good := fun t => nI (om_rk (om_pt vl) t t)) hy (by omega) (by omega))⟩) dX1_rank_60
      · refine lv_aload_n hx hb dX1_rank_23 rfl (lv_at hl 0 rfl) ?_
        refine lv_bipush (v := nI 60) hx hb dX1_rank_24 (by decide) ?_
        refine lv_iload_n hx hb dX1_rank_26 rfl (lv_at hl 3 rfl) ?_
        refine om_iadd hx hb dX1_rank_27 ?_
        refine lv_bipush (v := nI 60) hx hb dX1_rank_28 (by decide) ?_
        refine lv_iload_n hx hb dX1_rank_30 rfl (lv_at hl 1 rfl) ?_
        refine om_iadd hx hb dX1_rank_31 ?_
        refine om_calli (Wr := []) (As := [.int (nI (60 + x)), .int (nI (60 + y))]) (rest := []) C w (mY_order l D d h vl bs (nI n) (nI k) (60 + x) (60 + y) (by omega) (by omega)) [0, 1, 2] [] rfl rfl rfl rfl (by decide) rfl rfl (cwV 2 C.1.2.2.2.2 (lw_V q234 q236 qs10 q14 q237) rfl rfl rfl (by decide +kernel) ⟨Nat.le_of_ble_eq_true rfl, Nat.le_of_ble_eq_true rfl⟩) rfl hl.1 rfl (Nat.le_of_ble_eq_true rfl) dX1_rank_32 ⟨Nat.zero_le _, Nat.zero_le _⟩ (fun r_2 u_2 H locs hp_2 w => ?_)
        subst hp_2
        have w : om_H D A s (om_Y h d vl bs (nI n) (nI k)) H locs := w
        refine lv_istore (lv' := [(4, .int (om_ord (vl (60 + x)) (vl (60 + y)))), (0, .ref (h 0)), (1, .int (nI y)), (2, .int (nI sm)), (3, .int (nI x))]) hx hb dX1_rank_35 hl (by decide) rfl (fun ls hl => ?_)
        refine lv_iload hx hb dX1_rank_37 (lv_at hl 0 rfl) ?_
        refine lv_if_ge (tgt := 45) hx hb dX1_rank_39 (by decide) (fun c_39 => ?_) (fun c_39 => ?_)
        · have c_39 := om_ord_g c_39
          refine lv_iload hx hb dX1_rank_45 (lv_at hl 0 rfl) ?_
          refine lv_if_ne (tgt := 53) hx hb dX1_rank_47 (by decide) (fun c_47 => ?_) (fun c_47 => ?_)
          · have hr2 : sm = om_rk (om_pt vl) y (x + 1) := by rw [om_rk_3 (P := om_pt vl) (i := y) (j := x) c_39 (om_ord_n c_47)]; exact hrk
            refine lv_iinc (v := nI (x + 1)) (lv' := [(3, .int (nI (x + 1))), (4, .int (om_ord (vl (60 + x)) (vl (60 + y)))), (0, .ref (h 0)), (1, .int (nI y)), (2, .int (nI sm))]) hx hb dX1_rank_53 hl (k := 4) rfl (nI_add _ 1) (by decide) rfl (fun ls hl => ?_)
            refine lv_goto (tgt := 18) hx hb dX1_rank_56 (by decide) ?_
            exact ih_18 (x + 1) sm _ _ _ (by first | omega | (dsimp only; omega)) ⟨by omega, hr2, w, lv_sub hl [2, 3, 4, 0] rfl⟩
          · have hr2 : sm + 16 = om_rk (om_pt vl) y (x + 1) := by rw [om_rk_2 (P := om_pt vl) (i := y) (j := x) c_39 (om_ord_0 c_47), hrk]
            refine lv_iinc (v := nI (sm + 16)) (lv' := [(2, .int (nI (sm + 16))), (4, .int (om_ord (vl (60 + x)) (vl (60 + y)))), (0, .ref (h 0)), (1, .int (nI y)), (3, .int (nI x))]) hx hb dX1_rank_50 hl (k := 3) rfl (nI_add _ 16) (by decide) rfl (fun ls hl => ?_)
            refine lv_iinc (v := nI (x + 1)) (lv' := [(3, .int (nI (x + 1))), (2, .int (nI (sm + 16))), (4, .int (om_ord (vl (60 + x)) (vl (60 + y)))), (0, .ref (h 0)), (1, .int (nI y))]) hx hb dX1_rank_53 hl (k := 4) rfl (nI_add _ 1) (by decide) rfl (fun ls hl => ?_)
            refine lv_goto (tgt := 18) hx hb dX1_rank_56 (by decide) ?_
            exact ih_18 (x + 1) (sm + 16) _ _ _ (by first | omega | (dsimp only; omega)) ⟨by omega, hr2, w, lv_sub hl [3, 4, 1, 0] rfl⟩
        · have c_39 := om_ord_l c_39
          refine lv_iinc (v := nI (sm + 1)) (lv' := [(2, .int (nI (sm + 1))), (4, .int (om_ord (vl (60 + x)) (vl (60 + y)))), (0, .ref (h 0)), (1, .int (nI y)), (3, .int (nI x))]) hx hb dX1_rank_42 hl (k := 3) rfl (nI_add _ 1) (by decide) rfl (fun ls hl => ?_)
          refine lv_iload hx hb dX1_rank_45 (lv_at hl 1 rfl) ?_
          refine lv_if_ne (tgt := 53) hx hb dX1_rank_47 (by decide) (fun c_47 => ?_) (fun c_47 => ?_)
          · have hr2 : sm + 1 = om_rk (om_pt vl) y (x + 1) := by rw [om_rk_1 (P := om_pt vl) (i := y) (j := x) c_39, hrk]
            refine lv_iinc (v := nI (x + 1)) (lv' := [(3, .int (nI (x + 1))), (2, .int (nI (sm + 1))), (4, .int (om_ord (vl (60 + x)) (vl (60 + y)))), (0, .ref (h 0)), (1, .int (nI y))]) hx hb dX1_rank_53 hl (k := 4) rfl (nI_add _ 1) (by decide) rfl (fun ls hl => ?_)
            refine lv_goto (tgt := 18) hx hb dX1_rank_56 (by decide) ?_
            exact ih_18 (x + 1) (sm + 1) _ _ _ (by first | omega | (dsimp only; omega)) ⟨by omega, hr2, w, lv_sub hl [3, 4, 1, 0] rfl⟩
          · exact absurd (show vl (60 + x) < vl (60 + y) from c_39) (by rw [om_ord_0 c_47]; exact om_irr _)
    · refine lv_iconst (v := (-1)) hx hb dX1_rank_12 (by decide) ?_
      exact om_iret (vl, bs, n, k) C hr hlocks w (⟨rfl, rfl, rfl, om_rng_h hy (by omega)⟩) dX1_rank_13
set_option maxHeartbeats 4000000 in
set_option maxRecDepth 100000 in
/-- disjoint of the model -/
theorem mY_disjoint (l : Launch) (D : va_G) (d : ClassId) (h : Nat → Nat) (vl bs : Nat → Int32) (n k : Nat) (hn : n ≤ 60) (hk : k ≤ 10) : om_Mi l yX1_disjoint cX1_disjoint 3 (some .int) { frames := 3, cells := 0, slots := 0, locals := 90 } D d [.ref (h 0)] (om_Y h d vl bs (nI n) (nI k)) (fun (r : Int32) (u : om_T) => u.1 = vl ∧ u.2.2.1 = n ∧ u.2.2.2 = k ∧ r = nI (om_gs (om_ed vl (om_pt vl) k) k n).1) (om_Yu h d) := by
  intro sz
  refine om_enter (by decide) (Nat.le_of_ble_eq_true rfl) ?_
  intro p e s m below meth c ls C hr hlocks w hl
  generalize va_A (om_Y h d vl bs (nI n) (nI k)) sz = A at C w ⊢
  have C : om_C p m c cX1_disjoint 3 s _ RX1 D d A := C
  have hx := C.1.1
  have hb := C.1.2.1
  have hl : lv_has ls 3 [(0, .ref (h 0))] := hl
  refine lv_iconst (v := nI 0) hx hb dX1_disjoint_0 (by decide) ?_
  refine lv_istore_n (lv' := [(1, .int (nI 0)), (0, .ref (h 0))]) hx hb dX1_disjoint_1 rfl hl (by decide) rfl (fun ls hl => ?_)
  refine om_loop2 (α := Nat) (β := (Nat → Int32)) (I := fun x bs2 H locs ls => (x ≤ 61) ∧ (∀ t, t < x → bs2 t = nI 0) ∧ om_H D A s (om_Y h d vl bs2 (nI n) (nI k)) H locs ∧ lv_has ls 3 [(0, .ref (h 0)), (1, .int (nI x))]) (μ := fun x bs2 => 61 - x) ?_ 0 bs _ _ _ ⟨Nat.zero_le _, lt_0, w, lv_sub hl [1, 0] rfl⟩
  intro x bs2 H locs ls hI ih_2
  obtain ⟨hx61, hz, w, hl⟩ := hI
  refine lv_iload_n hx hb dX1_disjoint_2 rfl (lv_at hl 1 rfl) ?_
  refine lv_bipush (v := nI 61) hx hb dX1_disjoint_3 (by decide) ?_
  refine om_icmp_ge (tgt := 21) hx hb dX1_disjoint_5 (by decide) (by omega) (by omega) (fun c_5 => ?_) (fun c_5 => ?_)
  · refine lv_aload_n hx hb dX1_disjoint_21 rfl (lv_at hl 0 rfl) ?_
    refine yg_len C w dX1_disjoint_22 ?_
    refine lv_iconst (v := nI 1) hx hb dX1_disjoint_25 (by decide) ?_
    refine lv_isub hx hb dX1_disjoint_26 ?_
    refine lv_istore_n (lv' := [(1, .int ((nI n) - (nI 1))), (0, .ref (h 0))]) hx hb dX1_disjoint_27 rfl hl (by decide) rfl (fun ls hl => ?_)
    refine om_loop3 (α := Nat) (β := (Nat → Int32)) (γ := (Nat → Nat)) (I := fun x bs3 Bf H locs ls => (x ≤ n) ∧ (om_bs (om_oc vl (om_pt vl) n k) n k Bf x) ∧ (∀ t, x ≤ t → t ≤ 60 → bs3 t = nI (Bf t)) ∧ (∀ t, Bf t ≤ n - t) ∧ om_H D A s (om_Y h d vl bs3 (nI n) (nI k)) H locs ∧ lv_has ls 3 [(0, .ref (h 0)), (1, .int (nI x - nI 1))]) (μ := fun x bs3 Bf => x) ?_ n bs2 (fun _ => 0) _ _ _ ⟨Nat.le_refl _, ⟨fun _ _ => rfl, fun t t1 t2 _ => absurd t1 (by omega), fun t t1 t2 _ => absurd t1 (by omega)⟩, (fun t _ t2 => hz t (by omega)), (fun t => Nat.zero_le _), w, lv_sub hl [1, 0] rfl⟩
    intro x bs3 Bf H locs ls hI ih_28
    obtain ⟨hxn, hbs, hv, hB, w, hl⟩ := hI
    refine lv_iload_n hx hb dX1_disjoint_28 rfl (lv_at hl 1 rfl) ?_
    refine lv_if_lt (tgt := 91) hx hb dX1_disjoint_29 (by decide) (fun c_29 => ?_) (fun c_29 => ?_)
    · have hx0 : x = 0 := (om_lt0 (by omega)).mp c_29
      refine lv_aload_n hx hb dX1_disjoint_91 rfl (lv_at hl 0 rfl) ?_
      refine yg_bs C w dX1_disjoint_92 ?_
      refine lv_iconst (v := nI 0) hx hb dX1_disjoint_95 (by decide) ?_
      refine yl_bs C w (i := 0) (by omega) dX1_disjoint_96 ?_
      have ev : bs3 0 = nI (om_gs (om_ed vl (om_pt vl) k) k n).1 := by rw [hv 0 (by omega) (by omega), om_disjoint (by rw [← hx0]; exact hbs)]
      exact om_iret (vl, bs3, n, k) C hr hlocks w (⟨rfl, rfl, rfl, ev⟩) dX1_disjoint_97
    · have hx0 : 0 < x := by
        rcases Nat.eq_zero_or_pos x with z | z
        · exact absurd ((om_lt0 (by omega)).mpr z) c_29
        · exact z
      rw [pk_sub (show 1 ≤ x by omega)] at hl
      have hbs1 : om_bs (om_oc vl (om_pt vl) n k) n k Bf (x - 1 + 1) := by rw [show x - 1 + 1 = x by omega]; exact hbs
      refine lv_aload_n hx hb dX1_disjoint_32 rfl (lv_at hl 0 rfl) ?_
      refine yg_bs C w dX1_disjoint_33 ?_
      refine lv_iload_n hx hb dX1_disjoint_36 rfl (lv_at hl 1 rfl) ?_
      refine lv_aload_n hx hb dX1_disjoint_37 rfl (lv_at hl 0 rfl) ?_
      refine yg_bs C w dX1_disjoint_38 ?_
      refine lv_iload_n hx hb dX1_disjoint_41 rfl (lv_at hl 1 rfl) ?_
      refine lv_iconst (v := nI 1) hx hb dX1_disjoint_42 (by decide) ?_
      refine om_iadd hx hb dX1_disjoint_43 ?_
      refine yl_bs C w (i := x - 1 + 1) (by omega) dX1_disjoint_44 ?_
      refine ys_bs C w (i := x - 1) (by omega) dX1_disjoint_45 (fun H locs w => ?_)
      refine lv_aload_n hx hb dX1_disjoint_46 rfl (lv_at hl 0 rfl) ?_
      refine lv_iload_n hx hb dX1_disjoint_47 rfl (lv_at hl 1 rfl) ?_
      refine om_calli (Wr := []) (As := [.int (nI (x - 1))]) (rest := []) C w (mY_occurs l D d h vl (upd bs3 (x - 1) (bs3 (x - 1 + 1))) n k (nI (x - 1)) hn hk) [0, 1, 2] [] rfl rfl rfl rfl (by decide) rfl rfl (cwV 1 C.1.2.2.2.2 (lw_V q226 q228 qs8 q14 q229) rfl rfl rfl (by decide +kernel) ⟨Nat.le_of_ble_eq_true rfl, Nat.le_of_ble_eq_true rfl⟩) rfl hl.1 rfl (Nat.le_of_ble_eq_true rfl) dX1_disjoint_48 ⟨Nat.zero_le _, Nat.zero_le _⟩ (fun r_3 u_3 H locs hp_3 w => ?_)
      have hp_3 : r_3 = bI (om_oc vl (om_pt vl) n k (x - 1)) := (show r_3 = _ from hp_3).trans (om_ocr (by omega))
      subst hp_3
      have w : om_H D A s (om_Y h d vl (upd bs3 (x - 1) (bs3 (x - 1 + 1))) (nI n) (nI k)) H locs := w
      refine om_if_eqB (tgt := 85) hx hb dX1_disjoint_51 (by decide) (fun c_51 => ?_) (fun c_51 => ?_)
      · have hst := om_bs_step (v := Bf (x - 1 + 1)) hbs1 (by omega) (fun z => by rw [c_51] at z; cases z) (fun _ => rfl) (fun z => by rw [c_51] at z; cases z)
        have hv2 : ∀ t, x - 1 ≤ t → t ≤ 60 → (upd bs3 (x - 1) (bs3 (x - 1 + 1))) t = nI (if t = x - 1 then Bf (x - 1 + 1) else Bf t) := fun t t1 t2 => by
          by_cases z : t = x - 1
          · subst z; rw [pk_us, if_pos rfl]; exact hv _ (by omega) (by omega)
          · rw [pk_un z, if_neg z]; exact hv t (by omega) t2
        have hB2 : ∀ t, (if t = x - 1 then Bf (x - 1 + 1) else Bf t) ≤ n - t := fun t => by
          by_cases z : t = x - 1
          · rw [if_pos z]; have := hB (x - 1 + 1); omega
          · rw [if_neg z]; exact hB t
        refine lv_iinc (v := (nI (x - 1) - nI 1)) (lv' := [(1, .int (nI (x - 1) - nI 1)), (0, .ref (h 0))]) hx hb dX1_disjoint_85 hl (k := 1) rfl (om_m1s _) (by decide) rfl (fun ls hl => ?_)
        refine lv_goto (tgt := 28) hx hb dX1_disjoint_88 (by decide) ?_
        exact ih_28 (x - 1) (upd bs3 (x - 1) (bs3 (x - 1 + 1))) (fun t => if t = x - 1 then Bf (x - 1 + 1) else Bf t) _ _ _ (by first | omega | (dsimp only; omega)) ⟨by omega, hst, hv2, hB2, w, lv_sub hl [1, 0] rfl⟩
      · have hoc := om_oc_iff.mp c_51
        have hB1 := hB (x - 1 + k)
        have hB3 := hB (x - 1 + 1)
        refine lv_iconst (v := nI 1) hx hb dX1_disjoint_54 (by decide) ?_
        refine lv_aload_n hx hb dX1_disjoint_55 rfl (lv_at hl 0 rfl) ?_
        refine yg_bs C w dX1_disjoint_56 ?_
        refine lv_iload_n hx hb dX1_disjoint_59 rfl (lv_at hl 1 rfl) ?_
        refine lv_aload_n hx hb dX1_disjoint_60 rfl (lv_at hl 0 rfl) ?_
        refine yg_siz C w dX1_disjoint_61 ?_
        refine om_iadd hx hb dX1_disjoint_64 ?_
        refine yl_bs C w (i := x - 1 + k) (by omega) dX1_disjoint_65 ?_
        refine lv_topi (fun y_ ey_ => ?_)
        have ey_ : y_ = nI (Bf (x - 1 + k)) := ey_.trans (by rw [pk_un (by omega)]; exact hv _ (by omega) (by omega))
        subst ey_
        refine om_iadd hx hb dX1_disjoint_66 ?_
        refine lv_istore_n (lv' := [(2, .int (nI (1 + (Bf (x - 1 + k))))), (0, .ref (h 0)), (1, .int (nI (x - 1)))]) hx hb dX1_disjoint_67 rfl hl (by decide) rfl (fun ls hl => ?_)
        refine lv_iload_n hx hb dX1_disjoint_68 rfl (lv_at hl 0 rfl) ?_
        refine lv_aload_n hx hb dX1_disjoint_69 rfl (lv_at hl 1 rfl) ?_
        refine yg_bs C w dX1_disjoint_70 ?_
        refine lv_iload_n hx hb dX1_disjoint_73 rfl (lv_at hl 2 rfl) ?_
        refine yl_bs C w (i := x - 1) (by omega) dX1_disjoint_74 ?_
        refine lv_topi (fun y_ ey_ => ?_)
        have ey_ : y_ = nI (Bf (x - 1 + 1)) := ey_.trans (by rw [pk_us]; exact hv _ (by omega) (by omega))
        subst ey_
        refine om_icmp_le (tgt := 85) hx hb dX1_disjoint_75 (by decide) (by omega) (by omega) (fun c_75 => ?_) (fun c_75 => ?_)
        · have hst := om_bs_step (v := Bf (x - 1 + 1)) hbs1 (by omega) (fun _ => hoc.1) (fun _ => rfl) (fun _ => ⟨fun z => absurd z (by omega), fun _ => rfl⟩)
          have hv2 : ∀ t, x - 1 ≤ t → t ≤ 60 → (upd bs3 (x - 1) (bs3 (x - 1 + 1))) t = nI (if t = x - 1 then Bf (x - 1 + 1) else Bf t) := fun t t1 t2 => by
            by_cases z : t = x - 1
            · subst z; rw [pk_us, if_pos rfl]; exact hv _ (by omega) (by omega)
            · rw [pk_un z, if_neg z]; exact hv t (by omega) t2
          have hB2 : ∀ t, (if t = x - 1 then Bf (x - 1 + 1) else Bf t) ≤ n - t := fun t => by
            by_cases z : t = x - 1
            · rw [if_pos z]; omega
            · rw [if_neg z]; exact hB t
          refine lv_iinc (v := (nI (x - 1) - nI 1)) (lv' := [(1, .int (nI (x - 1) - nI 1)), (2, .int (nI (1 + (Bf (x - 1 + k))))), (0, .ref (h 0))]) hx hb dX1_disjoint_85 hl (k := 2) rfl (om_m1s _) (by decide) rfl (fun ls hl => ?_)
          refine lv_goto (tgt := 28) hx hb dX1_disjoint_88 (by decide) ?_
          exact ih_28 (x - 1) (upd bs3 (x - 1) (bs3 (x - 1 + 1))) (fun t => if t = x - 1 then Bf (x - 1 + 1) else Bf t) _ _ _ (by first | omega | (dsimp only; omega)) ⟨by omega, hst, hv2, hB2, w, lv_sub hl [2, 0] rfl⟩
        · have hst := om_bs_step (v := 1 + Bf (x - 1 + k)) hbs1 (by omega) (fun _ => hoc.1) (fun z => by rw [c_51] at z; cases z) (fun _ => ⟨fun _ => rfl, fun z => absurd z (by omega)⟩)
          have hv2 : ∀ t, x - 1 ≤ t → t ≤ 60 → (upd (upd bs3 (x - 1) (bs3 (x - 1 + 1))) (x - 1) (nI (1 + Bf (x - 1 + k)))) t = nI (if t = x - 1 then 1 + Bf (x - 1 + k) else Bf t) := fun t t1 t2 => by
            by_cases z : t = x - 1
            · subst z; rw [pk_us, if_pos rfl]
            · rw [pk_un z, pk_un z, if_neg z]; exact hv t (by omega) t2
          have hB2 : ∀ t, (if t = x - 1 then 1 + Bf (x - 1 + k) else Bf t) ≤ n - t := fun t => by
            by_cases z : t = x - 1
            · rw [if_pos z]; omega
            · rw [if_neg z]; exact hB t
          refine lv_aload_n hx hb dX1_disjoint_78 rfl (lv_at hl 1 rfl) ?_
          refine yg_bs C w dX1_disjoint_79 ?_
          refine lv_iload_n hx hb dX1_disjoint_82 rfl (lv_at hl 2 rfl) ?_
          refine lv_iload_n hx hb dX1_disjoint_83 rfl (lv_at hl 0 rfl) ?_
          refine ys_bs C w (i := x - 1) (by omega) dX1_disjoint_84 (fun H locs w => ?_)
          refine lv_iinc (v := (nI (x - 1) - nI 1)) (lv' := [(1, .int (nI (x - 1) - nI 1)), (2, .int (nI (1 + (Bf (x - 1 + k))))), (0, .ref (h 0))]) hx hb dX1_disjoint_85 hl (k := 2) rfl (om_m1s _) (by decide) rfl (fun ls hl => ?_)
          refine lv_goto (tgt := 28) hx hb dX1_disjoint_88 (by decide) ?_
          exact ih_28 (x - 1) (upd (upd bs3 (x - 1) (bs3 (x - 1 + 1))) (x - 1) (nI (1 + (Bf (x - 1 + k))))) (fun t => if t = x - 1 then 1 + Bf (x - 1 + k) else Bf t) _ _ _ (by first | omega | (dsimp only; omega)) ⟨by omega, hst, hv2, hB2, w, lv_sub hl [2, 0] rfl⟩
  · refine lv_aload_n hx hb dX1_disjoint_8 rfl (lv_at hl 0 rfl) ?_
    refine yg_bs C w dX1_disjoint_9 ?_
    refine lv_iload_n hx hb dX1_disjoint_12 rfl (lv_at hl 1 rfl) ?_
    refine lv_iconst (v := nI 0) hx hb dX1_disjoint_13 (by decide) ?_
    refine ys_bs C w (i := x) (by omega) dX1_disjoint_14 (fun H locs w => ?_)
    refine lv_iinc (v := nI (x + 1)) (lv' := [(1, .int (nI (x + 1))), (0, .ref (h 0))]) hx hb dX1_disjoint_15 hl (k := 1) rfl (nI_add _ 1) (by decide) rfl (fun ls hl => ?_)
    refine lv_goto (tgt := 2) hx hb dX1_disjoint_18 (by decide) ?_
    exact ih_2 (x + 1) (upd bs2 x (nI 0)) _ _ _ (by first | omega | (dsimp only; omega)) ⟨by omega, lt_s (fun t ht => by rw [pk_un (by omega)]; exact hz t ht) pk_us, w, lv_sub hl [1, 0] rfl⟩
end
section
/-! the constructors -/
set_option maxHeartbeats 4000000 in
set_option maxRecDepth 100000 in
/-- the constructor of X0: new arrays of noughts -/
theorem mX0_init (l : Launch) (D : va_G) (q sz : Nat) : Met l yX0_init (ws_ yX0_init cX0_init 1 none) ({ frames := 1, cells := 6, slots := 161, locals := 12 }) (va_Pc [.ref q] (fun U => U.heap.size = sz ∧ va_P D vwCl [(q, .inr (0, [.null, .null, .null, .null, .null, .null, .int (nI 0), .int (nI 0), .int (nI 0), .int (nI 0)]))] U.heap ∧ va_K D vwCl [] U ∧ va_D (fun _ => True) [(q, .inr (0, [.null, .null, .null, .null, .null, .null, .int (nI 0), .int (nI 0), .int (nI 0), .int (nI 0)]))])) (va_Qv (fun u : (Nat → Nat) × ClassId => u.1 0 = q) (fun u t => va_P D vwCl (om_X u.1 u.2 (fun _ => nI 0) (fun _ => nI 0) (fun _ => nI 0) (fun _ => nI 0) (fun _ => nI 0) (fun _ => nI 0) (nI 0) (nI 0) (nI 0) (nI 0)) t.heap ∧ va_K D vwCl [(u.2, .int)] t ∧ va_D (va_A [(q, .inr (0, [.null, .null, .null, .null, .null, .null, .int (nI 0), .int (nI 0), .int (nI 0), .int (nI 0)]))] sz) (om_X u.1 u.2 (fun _ => nI 0) (fun _ => nI 0) (fun _ => nI 0) (fun _ => nI 0) (fun _ => nI 0) (fun _ => nI 0) (nI 0) (nI 0) (nI 0) (nI 0))) (va_A [(q, .inr (0, [.null, .null, .null, .null, .null, .null, .int (nI 0), .int (nI 0), .int (nI 0), .int (nI 0)]))] sz)) 6 161 (va_A [(q, .inr (0, [.null, .null, .null, .null, .null, .null, .int (nI 0), .int (nI 0), .int (nI 0), .int (nI 0)]))] sz) := by
  refine Met.ofW (cc := cX0_init) (maxL := 1) (ret := none) (by decide) rfl ?_
  intro p e s m args below meth c s₁ B hml hv
  obtain ⟨rfl, hsz, hP, hK, hD0⟩ := hv
  have hx := B.exec
  have hb := B.bytes
  have hr := B.returns
  have hts := atoms_spec (ws := ws_ yX0_init cX0_init 1 none) B.pre
  have hts : ∀ w ∈ lw_all, w.before _ s = true := fun w h => hts w (List.mem_cons_of_mem _ h)
  have hown : s.vm.findClass RX0 = some m.cls := findClass_of_methodNamed B.named
  have hlocks := B.notSynchronized
  have hin : meth.name = "<init>" := (name_of_methodNamed B.named B.method).1
  subst hsz
  have hD := hD0.self (sz := s.heap.size)
  generalize hAe : va_A [(q, .inr (0, [.null, .null, .null, .null, .null, .null, .int (nI 0), .int (nI 0), .int (nI 0), .int (nI 0)]))] s.heap.size = A at hD ⊢
  have hA : ∀ q : Nat, s.heap.size ≤ q → A q := fun q h => by rw [← hAe]; exact Or.inr h
  have hS : va_S A s.heap s.heap [] := va_S.rf
  have hl := lv_entry ([.ref q]) (n := 1) (Nat.le_of_ble_eq_true rfl)
  rw [lg_entry_eq]
  generalize (lg_sl ([.ref q]) ++ List.replicate (1 - (lg_sl ([.ref q])).length) Slot.unset).toArray = ls at hl ⊢
  have hl : lv_has ls 1 [(0, .ref q)] := hl
  refine lv_aload_n hx hb dX0_init_0 rfl (lv_at hl 0 rfl) ?_
  refine W.objInit hx hb hown (hts _ q20) (hts _ q21) (hts _ q22) rfl (by rw [hml]; exact hl.1) rfl dX0_init_1 (Nat.le_of_ble_eq_true rfl) (Nat.le_of_ble_eq_true rfl) ?_
  refine W.eq (g2 := F0 m 4 ls []) rfl ?_
  refine lv_aload_n hx hb dX0_init_4 rfl (lv_at hl 0 rfl) ?_
  refine lv_bipush (v := nI 60) hx hb dX0_init_5 (by decide) ?_
  refine va_newa (atype := .int) (ty := .int) (n := nI 60) (N' := 60) (a0 := (60, .inl (fun _ => nI 0))) hx hb (hts _ q54) rfl hK hP hD hS hA (fun _ => rfl) (by decide) (by decide) (by decide) (Nat.le_of_ble_eq_true rfl) (Nat.le_of_ble_eq_true rfl) dX0_init_7 (fun a1 d1 H hK hP hD hS => ?_)
  obtain ⟨d, ed⟩ : ∃ d : ClassId, d1 = d := ⟨_, rfl⟩
  subst ed
  have hK : va_K D vwCl [(d1, .int)] s := hK
  generalize d1 = d at hK hP hD ⊢
  have hP : va_P D vwCl [(q, .inr (0, [.null, .null, .null, .null, .null, .null, .int (nI 0), .int (nI 0), .int (nI 0), .int (nI 0)])), (a1, .inl (d, 60, .inl (fun _ => nI 0)))] H := hP
  have hD : va_D A [(q, .inr (0, [.null, .null, .null, .null, .null, .null, .int (nI 0), .int (nI 0), .int (nI 0), .int (nI 0)])), (a1, .inl (d, 60, .inl (fun _ => nI 0)))] := hD
  refine va_putF (D := D) (ci := 0) (v := .ref a1) (ty := .array .int) (C := RX0) (T := TX0) (N := 10) hx hb hts in_X0 tyX0 tyX0_ok nmX0 hown hK hP hD hS 0 rfl rfl 0 (by decide) (hts _ q23) (fun _ h9 => h9) rfl hin rfl (by decide +kernel) rfl rfl (Nat.le_of_ble_eq_true rfl) dX0_init_9 (fun H locs hP hD hS => ?_)
  have hP : va_P D vwCl [(q, .inr (0, [.ref a1, .null, .null, .null, .null, .null, .int (nI 0), .int (nI 0), .int (nI 0), .int (nI 0)])), (a1, .inl (d, 60, .inl (fun _ => nI 0)))] H := hP
  have hD : va_D A [(q, .inr (0, [.ref a1, .null, .null, .null, .null, .null, .int (nI 0), .int (nI 0), .int (nI 0), .int (nI 0)])), (a1, .inl (d, 60, .inl (fun _ => nI 0)))] := hD
  refine lv_aload_n hx hb dX0_init_12 rfl (lv_at hl 0 rfl) ?_
  refine lv_bipush (v := nI 60) hx hb dX0_init_13 (by decide) ?_
  refine va_newa (atype := .int) (ty := .int) (n := nI 60) (N' := 60) (a0 := (60, .inl (fun _ => nI 0))) hx hb (hts _ q54) rfl hK hP hD hS hA (fun _ => rfl) (by decide) (by decide) (by decide) (Nat.le_of_ble_eq_true rfl) (Nat.le_of_ble_eq_true rfl) dX0_init_15 (fun a2 d2 H hK hP hD hS => ?_)
  have ed : d2 = d := by
    have h1 : s.vm.findClass ("[" ++ FieldType.int.toString) = some d := (hK.2 0 _ rfl).2
    have h2 : s.vm.findClass ("[" ++ FieldType.int.toString) = some d2 := (hK.2 1 _ rfl).2
    exact Option.some.inj (h2.symm.trans h1)
  rw [ed] at hK hP hD
  have hK : va_K D vwCl [(d, .int)] s := hK.sub [0] rfl
  have hP : va_P D vwCl [(q, .inr (0, [.ref a1, .null, .null, .null, .null, .null, .int (nI 0), .int (nI 0), .int (nI 0), .int (nI 0)])), (a1, .inl (d, 60, .inl (fun _ => nI 0))), (a2, .inl (d, 60, .inl (fun _ => nI 0)))] H := hP
  have hD : va_D A [(q, .inr (0, [.ref a1, .null, .null, .null, .null, .null, .int (nI 0), .int (nI 0), .int (nI 0), .int (nI 0)])), (a1, .inl (d, 60, .inl (fun _ => nI 0))), (a2, .inl (d, 60, .inl (fun _ => nI 0)))] := hD
  refine va_putF (D := D) (ci := 0) (v := .ref a2) (ty := .array .int) (C := RX0) (T := TX0) (N := 10) hx hb hts in_X0 tyX0 tyX0_ok nmX0 hown hK hP hD hS 0 rfl rfl 1 (by decide) (hts _ q24) (fun _ h9 => h9) rfl hin rfl (by decide +kernel) rfl rfl (Nat.le_of_ble_eq_true rfl) dX0_init_17 (fun H locs hP hD hS => ?_)
  have hP : va_P D vwCl [(q, .inr (0, [.ref a1, .ref a2, .null, .null, .null, .null, .int (nI 0), .int (nI 0), .int (nI 0), .int (nI 0)])), (a1, .inl (d, 60, .inl (fun _ => nI 0))), (a2, .inl (d, 60, .inl (fun _ => nI 0)))] H := hP
  have hD : va_D A [(q, .inr (0, [.ref a1, .ref a2, .null, .null, .null, .null, .int (nI 0), .int (nI 0), .int (nI 0), .int (nI 0)])), (a1, .inl (d, 60, .inl (fun _ => nI 0))), (a2, .inl (d, 60, .inl (fun _ => nI 0)))] := hD
  refine lv_aload_n hx hb dX0_init_20 rfl (lv_at hl 0 rfl) ?_
  refine lv_bipush (v := nI 10) hx hb dX0_init_21 (by decide) ?_
  refine va_newa (atype := .int) (ty := .int) (n := nI 10) (N' := 10) (a0 := (10, .inl (fun _ => nI 0))) hx hb (hts _ q54) rfl hK hP hD hS hA (fun _ => rfl) (by decide) (by decide) (by decide) (Nat.le_of_ble_eq_true rfl) (Nat.le_of_ble_eq_true rfl) dX0_init_23 (fun a3 d3 H hK hP hD hS => ?_)
  have ed : d3 = d := by
    have h1 : s.vm.findClass ("[" ++ FieldType.int.toString) = some d := (hK.2 0 _ rfl).2
    have h2 : s.vm.findClass ("[" ++ FieldType.int.toString) = some d3 := (hK.2 1 _ rfl).2
    exact Option.some.inj (h2.symm.trans h1)
  rw [ed] at hK hP hD
  have hK : va_K D vwCl [(d, .int)] s := hK.sub [0] rfl
  have hP : va_P D vwCl [(q, .inr (0, [.ref a1, .ref a2, .null, .null, .null, .null, .int (nI 0), .int (nI 0), .int (nI 0), .int (nI 0)])), (a1, .inl (d, 60, .inl (fun _ => nI 0))), (a2, .inl (d, 60, .inl (fun _ => nI 0))), (a3, .inl (d, 10, .inl (fun _ => nI 0)))] H := hP
  have hD : va_D A [(q, .inr (0, [.ref a1, .ref a2, .null, .null, .null, .null, .int (nI 0), .int (nI 0), .int (nI 0), .int (nI 0)])), (a1, .inl (d, 60, .inl (fun _ => nI 0))), (a2, .inl (d, 60, .inl (fun _ => nI 0))), (a3, .inl (d, 10, .inl (fun _ => nI 0)))] := hD
  refine va_putF (D := D) (ci := 0) (v := .ref a3) (ty := .array .int) (C := RX0) (T := TX0) (N := 10) hx hb hts in_X0 tyX0 tyX0_ok nmX0 hown hK hP hD hS 0 rfl rfl 2 (by decide) (hts _ q25) (fun _ h9 => h9) rfl hin rfl (by decide +kernel) rfl rfl (Nat.le_of_ble_eq_true rfl) dX0_init_25 (fun H locs hP hD hS => ?_)
  have hP : va_P D vwCl [(q, .inr (0, [.ref a1, .ref a2, .ref a3, .null, .null, .null, .int (nI 0), .int (nI 0), .int (nI 0), .int (nI 0)])), (a1, .inl (d, 60, .inl (fun _ => nI 0))), (a2, .inl (d, 60, .inl (fun _ => nI 0))), (a3, .inl (d, 10, .inl (fun _ => nI 0)))] H := hP
  have hD : va_D A [(q, .inr (0, [.ref a1, .ref a2, .ref a3, .null, .null, .null, .int (nI 0), .int (nI 0), .int (nI 0), .int (nI 0)])), (a1, .inl (d, 60, .inl (fun _ => nI 0))), (a2, .inl (d, 60, .inl (fun _ => nI 0))), (a3, .inl (d, 10, .inl (fun _ => nI 0)))] := hD
  refine lv_aload_n hx hb dX0_init_28 rfl (lv_at hl 0 rfl) ?_
  refine lv_bipush (v := nI 10) hx hb dX0_init_29 (by decide) ?_
  refine va_newa (atype := .int) (ty := .int) (n := nI 10) (N' := 10) (a0 := (10, .inl (fun _ => nI 0))) hx hb (hts _ q54) rfl hK hP hD hS hA (fun _ => rfl) (by decide) (by decide) (by decide) (Nat.le_of_ble_eq_true rfl) (Nat.le_of_ble_eq_true rfl) dX0_init_31 (fun a4 d4 H hK hP hD hS => ?_)
  have ed : d4 = d := by
    have h1 : s.vm.findClass ("[" ++ FieldType.int.toString) = some d := (hK.2 0 _ rfl).2
    have h2 : s.vm.findClass ("[" ++ FieldType.int.toString) = some d4 := (hK.2 1 _ rfl).2
    exact Option.some.inj (h2.symm.trans h1)
  rw [ed] at hK hP hD
  have hK : va_K D vwCl [(d, .int)] s := hK.sub [0] rfl
  have hP : va_P D vwCl [(q, .inr (0, [.ref a1, .ref a2, .ref a3, .null, .null, .null, .int (nI 0), .int (nI 0), .int (nI 0), .int (nI 0)])), (a1, .inl (d, 60, .inl (fun _ => nI 0))), (a2, .inl (d, 60, .inl (fun _ => nI 0))), (a3, .inl (d, 10, .inl (fun _ => nI 0))), (a4, .inl (d, 10, .inl (fun _ => nI 0)))] H := hP
  have hD : va_D A [(q, .inr (0, [.ref a1, .ref a2, .ref a3, .null, .null, .null, .int (nI 0), .int (nI 0), .int (nI 0), .int (nI 0)])), (a1, .inl (d, 60, .inl (fun _ => nI 0))), (a2, .inl (d, 60, .inl (fun _ => nI 0))), (a3, .inl (d, 10, .inl (fun _ => nI 0))), (a4, .inl (d, 10, .inl (fun _ => nI 0)))] := hD
  refine va_putF (D := D) (ci := 0) (v := .ref a4) (ty := .array .int) (C := RX0) (T := TX0) (N := 10) hx hb hts in_X0 tyX0 tyX0_ok nmX0 hown hK hP hD hS 0 rfl rfl 3 (by decide) (hts _ q26) (fun _ h9 => h9) rfl hin rfl (by decide +kernel) rfl rfl (Nat.le_of_ble_eq_true rfl) dX0_init_33 (fun H locs hP hD hS => ?_)
  have hP : va_P D vwCl [(q, .inr (0, [.ref a1, .ref a2, .ref a3, .ref a4, .null, .null, .int (nI 0), .int (nI 0), .int (nI 0), .int (nI 0)])), (a1, .inl (d, 60, .inl (fun _ => nI 0))), (a2, .inl (d, 60, .inl (fun _ => nI 0))), (a3, .inl (d, 10, .inl (fun _ => nI 0))), (a4, .inl (d, 10, .inl (fun _ => nI 0)))] H := hP
  have hD : va_D A [(q, .inr (0, [.ref a1, .ref a2, .ref a3, .ref a4, .null, .null, .int (nI 0), .int (nI 0), .int (nI 0), .int (nI 0)])), (a1, .inl (d, 60, .inl (fun _ => nI 0))), (a2, .inl (d, 60, .inl (fun _ => nI 0))), (a3, .inl (d, 10, .inl (fun _ => nI 0))), (a4, .inl (d, 10, .inl (fun _ => nI 0)))] := hD
  refine lv_aload_n hx hb dX0_init_36 rfl (lv_at hl 0 rfl) ?_
  refine lv_bipush (v := nI 10) hx hb dX0_init_37 (by decide) ?_
  refine va_newa (atype := .int) (ty := .int) (n := nI 10) (N' := 10) (a0 := (10, .inl (fun _ => nI 0))) hx hb (hts _ q54) rfl hK hP hD hS hA (fun _ => rfl) (by decide) (by decide) (by decide) (Nat.le_of_ble_eq_true rfl) (Nat.le_of_ble_eq_true rfl) dX0_init_39 (fun a5 d5 H hK hP hD hS => ?_)
  have ed : d5 = d := by
    have h1 : s.vm.findClass ("[" ++ FieldType.int.toString) = some d := (hK.2 0 _ rfl).2
    have h2 : s.vm.findClass ("[" ++ FieldType.int.toString) = some d5 := (hK.2 1 _ rfl).2
    exact Option.some.inj (h2.symm.trans h1)
  rw [ed] at hK hP hD
  have hK : va_K D vwCl [(d, .int)] s := hK.sub [0] rfl
  have hP : va_P D vwCl [(q, .inr (0, [.ref a1, .ref a2, .ref a3, .ref a4, .null, .null, .int (nI 0), .int (nI 0), .int (nI 0), .int (nI 0)])), (a1, .inl (d, 60, .inl (fun _ => nI 0))), (a2, .inl (d, 60, .inl (fun _ => nI 0))), (a3, .inl (d, 10, .inl (fun _ => nI 0))), (a4, .inl (d, 10, .inl (fun _ => nI 0))), (a5, .inl (d, 10, .inl (fun _ => nI 0)))] H := hP
  have hD : va_D A [(q, .inr (0, [.ref a1, .ref a2, .ref a3, .ref a4, .null, .null, .int (nI 0), .int (nI 0), .int (nI 0), .int (nI 0)])), (a1, .inl (d, 60, .inl (fun _ => nI 0))), (a2, .inl (d, 60, .inl (fun _ => nI 0))), (a3, .inl (d, 10, .inl (fun _ => nI 0))), (a4, .inl (d, 10, .inl (fun _ => nI 0))), (a5, .inl (d, 10, .inl (fun _ => nI 0)))] := hD
  refine va_putF (D := D) (ci := 0) (v := .ref a5) (ty := .array .int) (C := RX0) (T := TX0) (N := 10) hx hb hts in_X0 tyX0 tyX0_ok nmX0 hown hK hP hD hS 0 rfl rfl 4 (by decide) (hts _ q27) (fun _ h9 => h9) rfl hin rfl (by decide +kernel) rfl rfl (Nat.le_of_ble_eq_true rfl) dX0_init_41 (fun H locs hP hD hS => ?_)
  have hP : va_P D vwCl [(q, .inr (0, [.ref a1, .ref a2, .ref a3, .ref a4, .ref a5, .null, .int (nI 0), .int (nI 0), .int (nI 0), .int (nI 0)])), (a1, .inl (d, 60, .inl (fun _ => nI 0))), (a2, .inl (d, 60, .inl (fun _ => nI 0))), (a3, .inl (d, 10, .inl (fun _ => nI 0))), (a4, .inl (d, 10, .inl (fun _ => nI 0))), (a5, .inl (d, 10, .inl (fun _ => nI 0)))] H := hP
  have hD : va_D A [(q, .inr (0, [.ref a1, .ref a2, .ref a3, .ref a4, .ref a5, .null, .int (nI 0), .int (nI 0), .int (nI 0), .int (nI 0)])), (a1, .inl (d, 60, .inl (fun _ => nI 0))), (a2, .inl (d, 60, .inl (fun _ => nI 0))), (a3, .inl (d, 10, .inl (fun _ => nI 0))), (a4, .inl (d, 10, .inl (fun _ => nI 0))), (a5, .inl (d, 10, .inl (fun _ => nI 0)))] := hD
  refine lv_aload_n hx hb dX0_init_44 rfl (lv_at hl 0 rfl) ?_
  refine lv_bipush (v := nI 11) hx hb dX0_init_45 (by decide) ?_
  refine va_newa (atype := .int) (ty := .int) (n := nI 11) (N' := 11) (a0 := (11, .inl (fun _ => nI 0))) hx hb (hts _ q54) rfl hK hP hD hS hA (fun _ => rfl) (by decide) (by decide) (by decide) (Nat.le_of_ble_eq_true rfl) (Nat.le_of_ble_eq_true rfl) dX0_init_47 (fun a6 d6 H hK hP hD hS => ?_)
  have ed : d6 = d := by
    have h1 : s.vm.findClass ("[" ++ FieldType.int.toString) = some d := (hK.2 0 _ rfl).2
    have h2 : s.vm.findClass ("[" ++ FieldType.int.toString) = some d6 := (hK.2 1 _ rfl).2
    exact Option.some.inj (h2.symm.trans h1)
  rw [ed] at hK hP hD
  have hK : va_K D vwCl [(d, .int)] s := hK.sub [0] rfl
  have hP : va_P D vwCl [(q, .inr (0, [.ref a1, .ref a2, .ref a3, .ref a4, .ref a5, .null, .int (nI 0), .int (nI 0), .int (nI 0), .int (nI 0)])), (a1, .inl (d, 60, .inl (fun _ => nI 0))), (a2, .inl (d, 60, .inl (fun _ => nI 0))), (a3, .inl (d, 10, .inl (fun _ => nI 0))), (a4, .inl (d, 10, .inl (fun _ => nI 0))), (a5, .inl (d, 10, .inl (fun _ => nI 0))), (a6, .inl (d, 11, .inl (fun _ => nI 0)))] H := hP
  have hD : va_D A [(q, .inr (0, [.ref a1, .ref a2, .ref a3, .ref a4, .ref a5, .null, .int (nI 0), .int (nI 0), .int (nI 0), .int (nI 0)])), (a1, .inl (d, 60, .inl (fun _ => nI 0))), (a2, .inl (d, 60, .inl (fun _ => nI 0))), (a3, .inl (d, 10, .inl (fun _ => nI 0))), (a4, .inl (d, 10, .inl (fun _ => nI 0))), (a5, .inl (d, 10, .inl (fun _ => nI 0))), (a6, .inl (d, 11, .inl (fun _ => nI 0)))] := hD
  refine va_putF (D := D) (ci := 0) (v := .ref a6) (ty := .array .int) (C := RX0) (T := TX0) (N := 10) hx hb hts in_X0 tyX0 tyX0_ok nmX0 hown hK hP hD hS 0 rfl rfl 5 (by decide) (hts _ q28) (fun _ h9 => h9) rfl hin rfl (by decide +kernel) rfl rfl (Nat.le_of_ble_eq_true rfl) dX0_init_49 (fun H locs hP hD hS => ?_)
  have hP : va_P D vwCl [(q, .inr (0, [.ref a1, .ref a2, .ref a3, .ref a4, .ref a5, .ref a6, .int (nI 0), .int (nI 0), .int (nI 0), .int (nI 0)])), (a1, .inl (d, 60, .inl (fun _ => nI 0))), (a2, .inl (d, 60, .inl (fun _ => nI 0))), (a3, .inl (d, 10, .inl (fun _ => nI 0))), (a4, .inl (d, 10, .inl (fun _ => nI 0))), (a5, .inl (d, 10, .inl (fun _ => nI 0))), (a6, .inl (d, 11, .inl (fun _ => nI 0)))] H := hP
  have hD : va_D A [(q, .inr (0, [.ref a1, .ref a2, .ref a3, .ref a4, .ref a5, .ref a6, .int (nI 0), .int (nI 0), .int (nI 0), .int (nI 0)])), (a1, .inl (d, 60, .inl (fun _ => nI 0))), (a2, .inl (d, 60, .inl (fun _ => nI 0))), (a3, .inl (d, 10, .inl (fun _ => nI 0))), (a4, .inl (d, 10, .inl (fun _ => nI 0))), (a5, .inl (d, 10, .inl (fun _ => nI 0))), (a6, .inl (d, 11, .inl (fun _ => nI 0)))] := hD
  refine lv_aload_n hx hb dX0_init_52 rfl (lv_at hl 0 rfl) ?_
  refine lv_iconst (v := nI 0) hx hb dX0_init_53 (by decide) ?_
  refine va_put (D := D) (ci := 0) (v := .int (nI 0)) (ty := .boolean) (C := RX0) (T := TX0) (N := 10) hx hb hts in_X0 tyX0 tyX0_ok nmX0 hown hK hP hD hS 0 rfl rfl 9 (by decide) (hts _ q32) (fun _ h9 => h9) rfl (by decide +kernel) rfl rfl (Nat.le_of_ble_eq_true rfl) dX0_init_54 (fun H locs hP hD hS => ?_)
  have hP : va_P D vwCl [(q, .inr (0, [.ref a1, .ref a2, .ref a3, .ref a4, .ref a5, .ref a6, .int (nI 0), .int (nI 0), .int (nI 0), .int (nI 0)])), (a1, .inl (d, 60, .inl (fun _ => nI 0))), (a2, .inl (d, 60, .inl (fun _ => nI 0))), (a3, .inl (d, 10, .inl (fun _ => nI 0))), (a4, .inl (d, 10, .inl (fun _ => nI 0))), (a5, .inl (d, 10, .inl (fun _ => nI 0))), (a6, .inl (d, 11, .inl (fun _ => nI 0)))] H := hP
  have hD : va_D A [(q, .inr (0, [.ref a1, .ref a2, .ref a3, .ref a4, .ref a5, .ref a6, .int (nI 0), .int (nI 0), .int (nI 0), .int (nI 0)])), (a1, .inl (d, 60, .inl (fun _ => nI 0))), (a2, .inl (d, 60, .inl (fun _ => nI 0))), (a3, .inl (d, 10, .inl (fun _ => nI 0))), (a4, .inl (d, 10, .inl (fun _ => nI 0))), (a5, .inl (d, 10, .inl (fun _ => nI 0))), (a6, .inl (d, 11, .inl (fun _ => nI 0)))] := hD
  refine W.widen (k := 6) (n := 161) (Nat.le_of_ble_eq_true rfl) (Nat.le_of_ble_eq_true rfl) ?_
  exact W.vret hx hb hr (fun t ht hW => ⟨⟨(fun i => match i with | 0 => q | 1 => a1 | 2 => a2 | 3 => a3 | 4 => a4 | 5 => a5 | _ => a6, d), rfl, rfl, by rw [ht]; exact hP, va_K.moved hW.alike hK, hD⟩, hS.F ht⟩) hS.2.2 dX0_init_57
set_option maxHeartbeats 4000000 in
set_option maxRecDepth 100000 in
/-- the constructor of X1: new arrays of noughts -/
theorem mX1_init (l : Launch) (D : va_G) (q sz : Nat) : Met l yX1_init (ws_ yX1_init cX1_init 1 none) ({ frames := 1, cells := 2, slots := 131, locals := 12 }) (va_Pc [.ref q] (fun U => U.heap.size = sz ∧ va_P D vwCl [(q, .inr (1, [.null, .int (nI 0), .int (nI 0), .null]))] U.heap ∧ va_K D vwCl [] U ∧ va_D (fun _ => True) [(q, .inr (1, [.null, .int (nI 0), .int (nI 0), .null]))])) (va_Qv (fun u : (Nat → Nat) × ClassId => u.1 0 = q) (fun u t => va_P D vwCl (om_Y u.1 u.2 (fun _ => nI 0) (fun _ => nI 0) (nI 0) (nI 0)) t.heap ∧ va_K D vwCl [(u.2, .int)] t ∧ va_D (va_A [(q, .inr (1, [.null, .int (nI 0), .int (nI 0), .null]))] sz) (om_Y u.1 u.2 (fun _ => nI 0) (fun _ => nI 0) (nI 0) (nI 0))) (va_A [(q, .inr (1, [.null, .int (nI 0), .int (nI 0), .null]))] sz)) 2 131 (va_A [(q, .inr (1, [.null, .int (nI 0), .int (nI 0), .null]))] sz) := by
  refine Met.ofW (cc := cX1_init) (maxL := 1) (ret := none) (by decide) rfl ?_
  intro p e s m args below meth c s₁ B hml hv
  obtain ⟨rfl, hsz, hP, hK, hD0⟩ := hv
  have hx := B.exec
  have hb := B.bytes
  have hr := B.returns
  have hts := atoms_spec (ws := ws_ yX1_init cX1_init 1 none) B.pre
  have hts : ∀ w ∈ lw_all, w.before _ s = true := fun w h => hts w (List.mem_cons_of_mem _ h)
  have hown : s.vm.findClass RX1 = some m.cls := findClass_of_methodNamed B.named
  have hlocks := B.notSynchronized
  have hin : meth.name = "<init>" := (name_of_methodNamed B.named B.method).1
  subst hsz
  have hD := hD0.self (sz := s.heap.size)
  generalize hAe : va_A [(q, .inr (1, [.null, .int (nI 0), .int (nI 0), .null]))] s.heap.size = A at hD ⊢
  have hA : ∀ q : Nat, s.heap.size ≤ q → A q := fun q h => by rw [← hAe]; exact Or.inr h
  have hS : va_S A s.heap s.heap [] := va_S.rf
  have hl := lv_entry ([.ref q]) (n := 1) (Nat.le_of_ble_eq_true rfl)
  rw [lg_entry_eq]
  generalize (lg_sl ([.ref q]) ++ List.replicate (1 - (lg_sl ([.ref q])).length) Slot.unset).toArray = ls at hl ⊢
  have hl : lv_has ls 1 [(0, .ref q)] := hl
  refine lv_aload_n hx hb dX1_init_0 rfl (lv_at hl 0 rfl) ?_
  refine W.objInit hx hb hown (hts _ q168) (hts _ q21) (hts _ q22) rfl (by rw [hml]; exact hl.1) rfl dX1_init_1 (Nat.le_of_ble_eq_true rfl) (Nat.le_of_ble_eq_true rfl) ?_
  refine W.eq (g2 := F0 m 4 ls []) rfl ?_
  refine lv_aload_n hx hb dX1_init_4 rfl (lv_at hl 0 rfl) ?_
  refine lv_bipush (v := nI 70) hx hb dX1_init_5 (by decide) ?_
  refine va_newa (atype := .int) (ty := .int) (n := nI 70) (N' := 70) (a0 := (70, .inl (fun _ => nI 0))) hx hb (hts _ q54) rfl hK hP hD hS hA (fun _ => rfl) (by decide) (by decide) (by decide) (Nat.le_of_ble_eq_true rfl) (Nat.le_of_ble_eq_true rfl) dX1_init_7 (fun a1 d1 H hK hP hD hS => ?_)
  obtain ⟨d, ed⟩ : ∃ d : ClassId, d1 = d := ⟨_, rfl⟩
  subst ed
  have hK : va_K D vwCl [(d1, .int)] s := hK
  generalize d1 = d at hK hP hD ⊢
  have hP : va_P D vwCl [(q, .inr (1, [.null, .int (nI 0), .int (nI 0), .null])), (a1, .inl (d, 70, .inl (fun _ => nI 0)))] H := hP
  have hD : va_D A [(q, .inr (1, [.null, .int (nI 0), .int (nI 0), .null])), (a1, .inl (d, 70, .inl (fun _ => nI 0)))] := hD
  refine va_put (D := D) (ci := 1) (v := .ref a1) (ty := .array .int) (C := RX1) (T := TX1) (N := 4) hx hb hts in_X1 tyX1 tyX1_ok nmX1 hown hK hP hD hS 0 rfl rfl 0 (by decide) (hts _ q169) (fun _ h9 => h9) rfl (by decide +kernel) rfl rfl (Nat.le_of_ble_eq_true rfl) dX1_init_9 (fun H locs hP hD hS => ?_)
  have hP : va_P D vwCl [(q, .inr (1, [.ref a1, .int (nI 0), .int (nI 0), .null])), (a1, .inl (d, 70, .inl (fun _ => nI 0)))] H := hP
  have hD : va_D A [(q, .inr (1, [.ref a1, .int (nI 0), .int (nI 0), .null])), (a1, .inl (d, 70, .inl (fun _ => nI 0)))] := hD
  refine lv_aload_n hx hb dX1_init_12 rfl (lv_at hl 0 rfl) ?_
  refine lv_bipush (v := nI 61) hx hb dX1_init_13 (by decide) ?_
  refine va_newa (atype := .int) (ty := .int) (n := nI 61) (N' := 61) (a0 := (61, .inl (fun _ => nI 0))) hx hb (hts _ q54) rfl hK hP hD hS hA (fun _ => rfl) (by decide) (by decide) (by decide) (Nat.le_of_ble_eq_true rfl) (Nat.le_of_ble_eq_true rfl) dX1_init_15 (fun a2 d2 H hK hP hD hS => ?_)
  have ed : d2 = d := by
    have h1 : s.vm.findClass ("[" ++ FieldType.int.toString) = some d := (hK.2 0 _ rfl).2
    have h2 : s.vm.findClass ("[" ++ FieldType.int.toString) = some d2 := (hK.2 1 _ rfl).2
    exact Option.some.inj (h2.symm.trans h1)
  rw [ed] at hK hP hD
  have hK : va_K D vwCl [(d, .int)] s := hK.sub [0] rfl
  have hP : va_P D vwCl [(q, .inr (1, [.ref a1, .int (nI 0), .int (nI 0), .null])), (a1, .inl (d, 70, .inl (fun _ => nI 0))), (a2, .inl (d, 61, .inl (fun _ => nI 0)))] H := hP
  have hD : va_D A [(q, .inr (1, [.ref a1, .int (nI 0), .int (nI 0), .null])), (a1, .inl (d, 70, .inl (fun _ => nI 0))), (a2, .inl (d, 61, .inl (fun _ => nI 0)))] := hD
  refine va_put (D := D) (ci := 1) (v := .ref a2) (ty := .array .int) (C := RX1) (T := TX1) (N := 4) hx hb hts in_X1 tyX1 tyX1_ok nmX1 hown hK hP hD hS 0 rfl rfl 3 (by decide) (hts _ q172) (fun _ h9 => h9) rfl (by decide +kernel) rfl rfl (Nat.le_of_ble_eq_true rfl) dX1_init_17 (fun H locs hP hD hS => ?_)
  have hP : va_P D vwCl [(q, .inr (1, [.ref a1, .int (nI 0), .int (nI 0), .ref a2])), (a1, .inl (d, 70, .inl (fun _ => nI 0))), (a2, .inl (d, 61, .inl (fun _ => nI 0)))] H := hP
  have hD : va_D A [(q, .inr (1, [.ref a1, .int (nI 0), .int (nI 0), .ref a2])), (a1, .inl (d, 70, .inl (fun _ => nI 0))), (a2, .inl (d, 61, .inl (fun _ => nI 0)))] := hD
  refine W.widen (k := 2) (n := 131) (Nat.le_of_ble_eq_true rfl) (Nat.le_of_ble_eq_true rfl) ?_
  exact W.vret hx hb hr (fun t ht hW => ⟨⟨(fun i => match i with | 0 => q | 1 => a1 | _ => a2, d), rfl, rfl, by rw [ht]; exact hP, va_K.moved hW.alike hK, hD⟩, hS.F ht⟩) hS.2.2 dX1_init_20
end
section
/-! the class and the model answer alike: one row a method, no machine in sight -/
def om_R (tx pt vl : Nat → Int32) : Prop := (∀ j, j < 60 → tx j = vl j) ∧ ∀ j, j < 10 → pt j = vl (60 + j)
/-- behind both calls: one answer, one state -/
def om_E (r r2 : Int32) (tx pt vl : Nat → Int32) (n n2 k k2 : Nat) : Prop := r = r2 ∧ n2 = n ∧ k2 = k ∧ om_R tx pt vl
theorem tie_read {tx pt vl tx1 pt1 vl1 : Nat → Int32} {n k n1 k1 n2 k2 : Nat} {r r2 : Int32} {F G : Prop} (hR : om_R tx pt vl) (h1 : tx1 = tx ∧ pt1 = pt ∧ n1 = n ∧ k1 = k ∧ F) (h2 : vl1 = vl ∧ n2 = n ∧ k2 = k ∧ G) (he : F → G → r = r2) : om_E r r2 tx1 pt1 vl1 n1 n2 k1 k2 := by
  obtain ⟨rfl, rfl, rfl, rfl, f⟩ := h1
  obtain ⟨rfl, e1, e2, g⟩ := h2
  exact ⟨he f g, e1, e2, hR⟩
theorem tie_oc {tx pt vl : Nat → Int32} {n k : Nat} (hR : om_R tx pt vl) (hn : n ≤ 60) (hk : k ≤ 10) : om_oc tx pt n k = om_oc vl (om_pt vl) n k := om_oc_congr (fun j hj => hR.1 j (by omega)) (fun j hj => hR.2 j (by omega))
theorem tie_pattern {tx pt vl tx1 pt1 vl1 : Nat → Int32} {n k n1 k1 n2 k2 : Nat} {r r2 v : Int32} (hR : om_R tx pt vl) (h1 : tx1 = tx ∧ n1 = n ∧ ((k = 10 ∧ r = -1 ∧ pt1 = pt ∧ k1 = k) ∨ (k < 10 ∧ r = nI (k + 1) ∧ pt1 = upd pt k v ∧ k1 = k + 1))) (h2 : n2 = n ∧ ((k = 10 ∧ r2 = -1 ∧ vl1 = vl ∧ k2 = k) ∨ (k < 10 ∧ r2 = nI (k + 1) ∧ vl1 = upd vl (60 + k) v ∧ k2 = k + 1))) : om_E r r2 tx1 pt1 vl1 n1 n2 k1 k2 := by
  obtain ⟨rfl, rfl, h1⟩ := h1
  obtain ⟨e1, h2⟩ := h2
  rcases h1 with ⟨a1, a2, rfl, a4⟩ | ⟨a1, a2, rfl, a4⟩
  · rcases h2 with ⟨b1, b2, rfl, b4⟩ | ⟨b1, b2, rfl, b4⟩
    · exact ⟨by rw [a2, b2], e1, by omega, hR⟩
    · omega
  · rcases h2 with ⟨b1, b2, rfl, b4⟩ | ⟨b1, b2, rfl, b4⟩
    · omega
    · refine ⟨by rw [a2, b2], e1, by omega, fun j hj => ?_, fun j hj => ?_⟩
      · rw [pk_un (by omega)]; exact hR.1 j hj
      · by_cases z : j = k
        · subst z; rw [pk_us, pk_us]
        · rw [pk_un z, pk_un (by omega)]; exact hR.2 j hj
theorem tie_clear {tx pt vl tx1 pt1 vl1 : Nat → Int32} {n k n1 k1 n2 k2 : Nat} {r r2 : Int32} (hR : om_R tx pt vl) (h1 : tx1 = tx ∧ pt1 = pt ∧ n1 = n ∧ k1 = 0 ∧ r = nI k) (h2 : vl1 = vl ∧ n2 = n ∧ k2 = 0 ∧ r2 = nI k) : om_E r r2 tx1 pt1 vl1 n1 n2 k1 k2 := by
  obtain ⟨rfl, rfl, rfl, a4, a5⟩ := h1
  obtain ⟨rfl, e1, b4, b5⟩ := h2
  exact ⟨by rw [a5, b5], e1, by omega, hR⟩
theorem om_tk_z {n : Nat} {a b : Int} (h : om_tk n a b = 0) : 0 ≤ b ∧ b ≤ 10 ∧ 0 ≤ a ∧ a + b ≤ n := by
  unfold om_tk at h
  by_cases z : b < 0 ∨ 10 < b
  · rw [if_pos z] at h; cases h
  · rw [if_neg z] at h
    by_cases y : a < 0 ∨ (n : Int) < a + b
    · rw [if_pos y] at h; cases h
    · omega
theorem tie_take {tx pt vl tx1 pt1 vl1 : Nat → Int32} {n k n1 k1 n2 k2 : Nat} {r r2 a b : Int32} (hR : om_R tx pt vl) (hn : n ≤ 60) (h1 : tx1 = tx ∧ n1 = n ∧ k1 = om_tkk n a.toInt b.toInt k ∧ r = om_tkr n a b ∧ ∀ j, pt1 j = om_tkp n a.toInt b.toInt tx pt j) (h2 : n2 = n ∧ k2 = om_tkk n a.toInt b.toInt k ∧ r2 = om_tkr n a b ∧ (∀ j, j < 60 → vl1 j = vl j) ∧ ∀ j, vl1 (60 + j) = om_tkp n a.toInt b.toInt vl (om_pt vl) j) : om_E r r2 tx1 pt1 vl1 n1 n2 k1 k2 := by
  obtain ⟨rfl, rfl, a3, a4, a5⟩ := h1
  obtain ⟨e1, b3, b4, b5, b6⟩ := h2
  refine ⟨by rw [a4, b4], e1, by rw [a3, b3], fun j hj => by rw [b5 j hj]; exact hR.1 j hj, fun j hj => ?_⟩
  rw [a5 j, b6 j]
  unfold om_tkp
  by_cases z : om_tk n1 a.toInt b.toInt = 0 ∧ j < b.toInt.toNat
  · rw [if_pos z, if_pos z]
    have := om_tk_z z.1
    exact hR.1 _ (by omega)
  · rw [if_neg z, if_neg z]; exact hR.2 j hj
theorem tie_feed {tx pt vl tx1 pt1 vl1 : Nat → Int32} {n k n1 k1 n2 k2 : Nat} {r r2 v : Int32} (hR : om_R tx pt vl) (h1 : pt1 = pt ∧ k1 = k ∧ ((n = 60 ∧ r = -1 ∧ tx1 = tx ∧ n1 = n) ∨ (n < 60 ∧ r = nI (n + 1) ∧ tx1 = upd tx n v ∧ n1 = n + 1))) (h2 : k2 = k ∧ ((n = 60 ∧ r2 = -1 ∧ vl1 = vl ∧ n2 = n) ∨ (n < 60 ∧ r2 = nI (n + 1) ∧ vl1 = upd vl n v ∧ n2 = n + 1))) : om_E r r2 tx1 pt1 vl1 n1 n2 k1 k2 := by
  obtain ⟨rfl, rfl, h1⟩ := h1
  obtain ⟨e1, h2⟩ := h2
  rcases h1 with ⟨a1, a2, rfl, a4⟩ | ⟨a1, a2, rfl, a4⟩
  · rcases h2 with ⟨b1, b2, rfl, b4⟩ | ⟨b1, b2, rfl, b4⟩
    · exact ⟨by rw [a2, b2], by omega, e1, hR⟩
    · omega
  · rcases h2 with ⟨b1, b2, rfl, b4⟩ | ⟨b1, b2, rfl, b4⟩
    · omega
    · refine ⟨by rw [a2, b2], by omega, e1, fun j hj => ?_, fun j hj => ?_⟩
      · by_cases z : j = n
        · subst z; rw [pk_us, pk_us]
        · rw [pk_un z, pk_un z]; exact hR.1 j hj
      · rw [pk_un (by omega)]; exact hR.2 j hj
theorem om_rp_z {n : Nat} {q : Int} (h : om_rp n q = 0) : 1 ≤ q ∧ (n : Int) + q ≤ 60 := by
  unfold om_rp at h
  by_cases z : q < 1 ∨ 60 < q
  · rw [if_pos z] at h; cases h
  · rw [if_neg z] at h
    by_cases y : 60 < (n : Int) + q
    · rw [if_pos y] at h; cases h
    · omega
theorem tie_ramp {tx pt vl tx1 pt1 vl1 : Nat → Int32} {n k n1 k1 n2 k2 : Nat} {r r2 a b : Int32} {q : Int} (hR : om_R tx pt vl) (h1 : pt1 = pt ∧ k1 = k ∧ n1 = om_rpn n q ∧ r = om_rpr n q ∧ ∀ j, tx1 j = om_rpt n q a b tx j) (h2 : k2 = k ∧ n2 = om_rpn n q ∧ r2 = om_rpr n q ∧ ∀ j, vl1 j = om_rpt n q a b vl j) : om_E r r2 tx1 pt1 vl1 n1 n2 k1 k2 := by
  obtain ⟨rfl, rfl, a3, a4, a5⟩ := h1
  obtain ⟨e1, b3, b4, b5⟩ := h2
  refine ⟨by rw [a4, b4], by rw [a3, b3], e1, fun j hj => ?_, fun j hj => ?_⟩
  · rw [a5 j, b5 j]
    unfold om_rpt
    by_cases z : om_rp n q = 0 ∧ n ≤ j ∧ j < n + q.toNat
    · rw [if_pos z, if_pos z]
    · rw [if_neg z, if_neg z]; exact hR.1 j hj
  · rw [b5 (60 + j)]
    unfold om_rpt
    rw [if_neg (fun z => by have := om_rp_z z.1; omega)]
    exact hR.2 j hj
theorem om_ec_z {n : Nat} {q : Int} (h : om_ec n q = 0) : q.toNat % 64 + q.toNat / 64 ≤ n ∧ n + q.toNat / 64 ≤ 60 := by
  unfold om_ec at h
  by_cases z : q < 0 ∨ q.toNat / 64 < 1 ∨ 20 < q.toNat / 64
  · rw [if_pos z] at h; cases h
  · rw [if_neg z] at h
    by_cases y : n < q.toNat % 64 + q.toNat / 64
    · rw [if_pos y] at h; cases h
    · rw [if_neg y] at h
      by_cases x : 60 < n + q.toNat / 64
      · rw [if_pos x] at h; cases h
      · omega
theorem tie_echo {tx pt vl tx1 pt1 vl1 : Nat → Int32} {n k n1 k1 n2 k2 : Nat} {r r2 a b : Int32} {q : Int} (hR : om_R tx pt vl) (h1 : pt1 = pt ∧ k1 = k ∧ n1 = om_ecn n q ∧ r = om_ecr n q ∧ ∀ j, tx1 j = om_ect n q b a tx j) (h2 : k2 = k ∧ n2 = om_ecn n q ∧ r2 = om_ecr n q ∧ ∀ j, vl1 j = om_ect n q b a vl j) : om_E r r2 tx1 pt1 vl1 n1 n2 k1 k2 := by
  obtain ⟨rfl, rfl, a3, a4, a5⟩ := h1
  obtain ⟨e1, b3, b4, b5⟩ := h2
  refine ⟨by rw [a4, b4], by rw [a3, b3], e1, fun j hj => ?_, fun j hj => ?_⟩
  · rw [a5 j, b5 j]
    unfold om_ect
    by_cases z : om_ec n q = 0 ∧ n ≤ j ∧ j < n + q.toNat / 64
    · have := om_ec_z z.1
      rw [if_pos z, if_pos z, hR.1 _ (by omega)]
    · rw [if_neg z, if_neg z]; exact hR.1 j hj
  · rw [b5 (60 + j)]
    unfold om_ect
    rw [if_neg (fun z => by have := om_ec_z z.1; omega)]
    exact hR.2 j hj
theorem tie_undo {tx pt vl tx1 pt1 vl1 : Nat → Int32} {n k n1 k1 n2 k2 : Nat} {r r2 : Int32} {q : Int} (hR : om_R tx pt vl) (h1 : tx1 = tx ∧ pt1 = pt ∧ k1 = k ∧ n1 = om_un n q ∧ r = om_unr n q) (h2 : vl1 = vl ∧ k2 = k ∧ n2 = om_un n q ∧ r2 = om_unr n q) : om_E r r2 tx1 pt1 vl1 n1 n2 k1 k2 := by
  obtain ⟨rfl, rfl, rfl, a4, a5⟩ := h1
  obtain ⟨rfl, e1, b4, b5⟩ := h2
  exact ⟨by rw [a5, b5], by rw [a4, b4], e1, hR⟩
theorem tie_valueAt {tx pt vl : Nat → Int32} {n : Nat} {r r2 : Int32} {q : Int} (hR : om_R tx pt vl) (hn : n ≤ 60) (h1 : r = om_rng 0 ((n : Int) - 1) q (nI 0) tx) (h2 : r2 = om_rng 0 ((n : Int) - 1) q (nI 0) vl) : r = r2 := by
  rw [h1, h2]
  exact om_rng_congr (fun c _ hc => hR.1 c (by omega)) (by omega)
theorem tie_occurrences {tx pt vl : Nat → Int32} {n k : Nat} {r r2 : Int32} (hR : om_R tx pt vl) (hn : n ≤ 60) (hk : k ≤ 10) (h1 : r = nI (om_cnt (om_oc tx pt n k) n)) (h2 : r2 = nI (om_cnt (om_oc vl (om_pt vl) n k) n)) : r = r2 := by
  rw [h1, h2, tie_oc hR hn hk]
theorem tie_occurrence {tx pt vl : Nat → Int32} {n k : Nat} {q r r2 : Int32} (hR : om_R tx pt vl) (hn : n ≤ 60) (hk : k ≤ 10) (h1 : om_nth (om_oc tx pt n k) n q r) (h2 : om_nth (om_oc vl (om_pt vl) n k) n q r2) : r = r2 := by
  rw [tie_oc hR hn hk] at h1
  exact om_nth_1 (by omega) h1 h2
theorem tie_occursAt {tx pt vl : Nat → Int32} {n k : Nat} {r r2 : Int32} {q : Int} (hR : om_R tx pt vl) (hn : n ≤ 60) (hk : k ≤ 10) (h1 : r = om_rng 0 (2 ^ 31) q (nI 0) (fun p => bI (om_oc tx pt n k p))) (h2 : r2 = om_rng 0 (2 ^ 31) q (nI 0) (fun t => bI (om_oc vl (om_pt vl) n k t))) : r = r2 := by
  rw [h1, h2, tie_oc hR hn hk]
theorem tie_nextFrom {tx pt vl : Nat → Int32} {n k : Nat} {q r r2 : Int32} (hR : om_R tx pt vl) (hn : n ≤ 60) (hk : k ≤ 10) (h1 : om_nx (om_oc tx pt n k) n q r) (h2 : om_nx (om_oc vl (om_pt vl) n k) n q r2) : r = r2 := by
  rw [tie_oc hR hn hk] at h1
  exact om_nx_1 h1 h2
theorem tie_matchedAt {tx pt vl : Nat → Int32} {n k : Nat} {r r2 : Int32} {q : Int} (hR : om_R tx pt vl) (hn : n ≤ 60) (hk : k ≤ 10) (h1 : r = om_rng 0 ((n : Int) - 1) q (-1) (fun p => nI (om_mt tx pt k p))) (h2 : r2 = om_rng 0 ((n : Int) - 1) q (-1) (fun t => nI (om_mt vl (om_pt vl) k t))) : r = r2 := by
  rw [h1, h2]
  refine om_rng_congr (fun c _ hc => ?_) (by omega)
  show nI (om_mt tx pt k c) = nI (om_mt vl (om_pt vl) k c)
  rw [om_mt_congr (fun j hj => hR.1 j (by omega)) (fun j hj => show pt j = om_pt vl j from hR.2 j (by omega))]
theorem tie_border {tx pt vl : Nat → Int32} {k : Nat} {r r2 : Int32} {q : Int} (hR : om_R tx pt vl) (hk : k ≤ 10) (h1 : r = om_rng 1 (k : Int) q (-1) (fun p => nI (om_wd pt p))) (h2 : r2 = om_rng 1 (k : Int) q (-1) (fun t => nI (om_wd (om_pt vl) t))) : r = r2 := by
  rw [h1, h2]
  refine om_rng_congr (fun c _ hc => ?_) (by omega)
  show nI (om_wd pt c) = nI (om_wd (om_pt vl) c)
  rw [om_wd_congr (fun j hj => show pt j = om_pt vl j from hR.2 j (by omega))]
theorem tie_period {tx pt vl : Nat → Int32} {k : Nat} {r r2 : Int32} (hR : om_R tx pt vl) (hk : k ≤ 10) (h1 : r = nI (k - om_wd pt k)) (h2 : r2 = nI (k - om_wd (om_pt vl) k)) : r = r2 := by
  rw [h1, h2, om_wd_congr (fun j hj => show pt j = om_pt vl j from hR.2 j (by omega))]
theorem tie_rank {tx pt vl : Nat → Int32} {k : Nat} {r r2 : Int32} {q : Int} (hR : om_R tx pt vl) (hk : k ≤ 10) (h1 : r = om_rng 0 ((k : Int) - 1) q (-1) (fun p => nI (om_rk pt p p))) (h2 : r2 = om_rng 0 ((k : Int) - 1) q (-1) (fun t => nI (om_rk (om_pt vl) t t))) : r = r2 := by
  rw [h1, h2]
  refine om_rng_congr (fun c _ hc => ?_) (by omega)
  show nI (om_rk pt c c) = nI (om_rk (om_pt vl) c c)
  rw [om_rk_congr (P := pt) (P2 := om_pt vl) c (fun j hj => hR.2 j (by omega)) (hR.2 c (by omega))]
theorem tie_disjoint {tx pt vl : Nat → Int32} {n k : Nat} {r r2 : Int32} (hR : om_R tx pt vl) (hn : n ≤ 60) (hk : k ≤ 10) (h1 : r = nI (om_gs (om_ed tx pt k) k n).1) (h2 : r2 = nI (om_gs (om_ed vl (om_pt vl) k) k n).1) : r = r2 := by
  rw [h1, h2, om_gs_congr (fun p hp => om_ed_congr (fun j hj => hR.1 j (by omega)) (fun j hj => show pt j = om_pt vl j from hR.2 j (by omega)))]
end
section
/-! THE CLAIM OUT OF ONE WALK OF THE LAW'S BODY. Your part is whole_start (and what it stands on); all else here is the same for every law, but numbers. -/
def R_law : String := "OrderMatcherLaw"
def lw_P (b : Addr) (xs : List Int32) (args : Array Value) (s : State) : Prop := args = #[.ref b] ∧ s.IntsAt b xs ∧ xs.length ≤ 256 ∧ (Jvm.Cond.and given_1 narrow_1).before args s = true
def lw_Q (_ : Array Value) (s : State) (o : Outcome) (t : State) : Prop := o = .returned (some (.int 1)) ∧ Framed s o t [] 600000 7290000
def lw_Z (below : List Frame) (a : Array Value) (s : State) : State → Prop := fun t => ∃ o, t.status = .running ∧ Ended t below o ∧ lw_Q a s o t
/-- the law's own end, with 1 on the stack, nothing written that was there before, its room as the claim has it -/
theorem lw_ret {p : Program} {l : Launch} {e : Env} {s : State} {m : MethodId} {below : List Frame} {meth : Method} {c : Code} {b : Nat} (hx : p.tables.exec = Jvm.exec) (hb : c.code = code) (hr : meth.sig.returnType = ret) (hlocks : meth.locks = false) {pc : Nat} {H : Heap} {ls : Array Slot} (hdg : decode code pc = .ok (.ireturn, 1)) : W p l e room_1 s m #[Value.ref b] below meth c H [] 600000 7290000 (lw_Z below #[Value.ref b] s) (F0 m pc ls [.int 1]) := by
  intro T hT X
  obtain ⟨fs, hret, hrun, hended, hW, hframe⟩ := X.leave (v := some (.int 1)) (hlocks := hlocks) (fun h => by rw [hr] at h; cases h)
  have hmeth' : T.vm.method? m = some meth := X.method'
  refine ⟨T.setFrames fs, ?_, .returned (some (.int 1)), hrun, hended, rfl, ⟨_, rfl⟩, hW, hframe⟩
  jvm_step X.here [X.here.top, hx, hb, hdg, hmeth', hr, ret, narrow_b1]
  (try refine ⟨rfl, ?_⟩); (try refine ⟨rfl, ?_⟩)
  first | (intro acts; rw [hret _ acts rfl rfl rfl]) | rw [hret _ _ rfl rfl rfl]
  exact Steps.refl _
/-- what holds at the law's entry: the machine, the code, the tables' words (any of lw_tbl by 'hts w (by decide +kernel)'), the script of L ints xs at the cell b, what the Statement gives of the start (any of its parts by flat_of_before) -/
def lw_At (p : Program) (s : State) (m : MethodId) (meth : Method) (c : Code) (b L : Nat) (xs : Nat → Int32) : Prop :=
  p.tables.exec = Jvm.exec ∧ c.code = code ∧ meth.sig.returnType = ret ∧ c.maxLocals = 4 ∧ s.vm.findClass R_law = some m.cls ∧ (∀ w ∈ lw_tbl, w.before #[Value.ref b] s = true) ∧ va_X b L xs s s.heap ∧ b < s.heap.size ∧ meth.locks = false ∧ (Jvm.Cond.and given_1 narrow_1).before #[Value.ref b] s = true
/-! rows for the script's array -/
section OL
variable {p : Program} {l : Launch} {e : Env} {R : Room} {s : State} {m : MethodId} {args : Array Value} {below : List Frame} {meth : Method} {c : Code} {H : Heap} {locs : List Loc} {cells slots : Nat} {Q : State → Prop}
variable {cc : ByteArray} {nL pc : Nat} {ls : Array Slot} {rest : List Value} {D : va_G} {d : ClassId} {A : Nat → Prop} {own : String} {ws : va_W}
theorem om_sld {b L i : Nat} {xs : Nat → Int32} (hx : p.tables.exec = Jvm.exec) (hb : c.code = cc) (hX : va_X b L xs s s.heap) (hbl : b < s.heap.size) (hbA : ¬ A b) (w : om_H D A s ws H locs) (hi : i < L) (hL : L ≤ 256) (hdg : decode cc pc = .ok (.iaload, 1))
    (kk : W p l e R s m args below meth c H locs cells slots Q (F0 m (pc + 1) ls (.int (xs i) :: rest))) : W p l e R s m args below meth c H locs cells slots Q (F0 m pc ls (.int (nI i) :: .ref b :: rest)) := by
  refine va_sld hx hb hX hbl hbA w.2.2 (vp_in_nI hi (by omega)) hdg ?_
  rw [nI_clamp (by omega)]
  exact kk
theorem om_slen {b L : Nat} {xs : Nat → Int32} (hx : p.tables.exec = Jvm.exec) (hb : c.code = cc) (hX : va_X b L xs s s.heap) (hbl : b < s.heap.size) (hbA : ¬ A b) (w : om_H D A s ws H locs) (hdg : decode cc pc = .ok (.arraylength, 1))
    (kk : W p l e R s m args below meth c H locs cells slots Q (F0 m (pc + 1) ls (.int (nI L) :: rest))) : W p l e R s m args below meth c H locs cells slots Q (F0 m pc ls (.ref b :: rest)) := va_slen hx hb hX hbl hbA w.2.2 hdg kk
end OL
end
section
set_option maxHeartbeats 8000000 in
set_option maxRecDepth 100000 in
/-- THE LAW'S LOOP: at its head the class and the model hold one state -/
theorem law_loop {p : Program} {e : Env} {s : State} {m : MethodId} {below : List Frame} {meth : Method} {c : Code} {D : va_G} {d : ClassId} {h g : Nat → Nat} (l : Launch) {b L : Nat} {xs : Nat → Int32} (hL : L ≤ 256) (C0 : lw_At p s m meth c b L xs) (hK : va_K D vwCl [(d, .int)] s) {H : Heap} {locs : List Loc} {ls : Array Slot}
    (w : om_H D (fun q => s.heap.size ≤ q) s (om_X h d (fun _ => nI 0) (fun _ => nI 0) (fun _ => nI 0) (fun _ => nI 0) (fun _ => nI 0) (fun _ => nI 0) (nI 0) (nI 0) (nI 0) (nI 0) ++ om_Y g d (fun _ => nI 0) (fun _ => nI 0) (nI 0) (nI 0)) H locs) (hl : lv_has ls 4 [(0, .ref b), (1, .ref (h 0)), (2, .ref (g 0)), (3, .int (nI 0))]) : W p l e room_1 s m #[Value.ref b] below meth c H locs 10 306 (lw_Z below #[Value.ref b] s) (F0 m 18 ls []) := by
  obtain ⟨hx, hb, hr, hml, hown, hts, hX, hbl, hlocks, hgv⟩ := C0
  have hts : ∀ w ∈ lw_all, w.before #[Value.ref b] s = true := fun w h => hts w (lw_all_tbl h)
  have hbA : ¬ (fun q : Nat => s.heap.size ≤ q) b := Nat.not_le.mpr hbl
  have hfg : ∀ q : Nat, (fun q : Nat => s.heap.size ≤ q) q → s.heap.size ≤ q := fun _ h => h
  have C : om_C p m c code 4 s #[Value.ref b] R_law D d (fun q => s.heap.size ≤ q) := ⟨⟨hx, hb, hml, hown, hts⟩, hK, fun q h => h⟩
  generalize (fun q : Nat => s.heap.size ≤ q) = A at C w hbA hfg
  refine om_loop3 (α := Nat) (β := om_S) (γ := (Nat → Int32) × (Nat → Int32)) (I := fun i u v H locs ls => i ≤ L ∧ om_po (fun tx pt n k => om_R tx pt v.1) u ∧ om_H D A s (om_Xu h d u ++ om_Y g d v.1 v.2 (nI u.2.2.2.2.2.2.1) (nI u.2.2.2.2.2.2.2.1)) H locs ∧ lv_has ls 4 [(0, .ref b), (1, .ref (h 0)), (2, .ref (g 0)), (3, .int (nI i))]) (μ := fun i _ _ => L - i) ?_ 0 ((fun _ => nI 0), (fun _ => nI 0), (fun _ => nI 0), (fun _ => nI 0), (fun _ => nI 0), (fun _ => nI 0), 0, 0, 0, nI 0) ((fun _ => nI 0), (fun _ => nI 0)) _ _ _ ⟨Nat.zero_le _, ⟨om_I_new (Nat.zero_le _) (Nat.zero_le _), fun _ _ => rfl, fun _ _ => rfl⟩, w, hl⟩
  intro i u v H locs ls hI ih
  obtain ⟨hiL, hJ, w, hl⟩ := hI
  obtain ⟨tx, mt, pt, bl, ab, fl, n, k, z, cd⟩ := u
  obtain ⟨vl, bs⟩ := v
  obtain ⟨hI, hR⟩ := hJ
  have hI : om_I tx mt pt bl ab fl n k z cd := hI
  have hR : om_R tx pt vl := hR
  obtain ⟨hn, hk, -⟩ := id hI
  have w : om_H D A s (om_X h d tx mt pt bl ab fl (nI n) (nI k) (nI z) cd ++ om_Y g d vl bs (nI n) (nI k)) H locs := w
  refine lv_iload_n hx hb dL_law_18 rfl (lv_at hl 3 rfl) ?_
  refine lv_aload_n hx hb dL_law_19 rfl (lv_at hl 0 rfl) ?_
  refine om_slen hx hb hX hbl hbA w dL_law_20 ?_
  refine lv_iconst (v := nI 4) hx hb dL_law_21 (by decide) ?_
  refine lv_isub hx hb dL_law_22 ?_
  refine om_icmp_gtD (tgt := 557) (x := i) (a := L) (b := 4) hx hb dL_law_23 (by decide) (by omega) (by omega) (by omega) (fun c_23 => ?_) (fun c_23 => ?_)
  · refine lv_iconst (v := 1) hx hb dL_law_557 (by decide) ?_
    refine va_forget (fun q hq => hfg _ (w.2.2.2.2 q hq)) ?_
    refine W.widen (k := 600000) (n := 7290000) (Nat.le_of_ble_eq_true rfl) (Nat.le_of_ble_eq_true rfl) ?_
    exact lw_ret hx hb hr hlocks dL_law_558
  have back : ∀ (u : om_S) (v : (Nat → Int32) × (Nat → Int32)) (H : Heap) (locs : List Loc) (ls : Array Slot), om_po (fun tx pt n k => om_R tx pt v.1) u ∧ om_H D A s (om_Xu h d u ++ om_Y g d v.1 v.2 (nI u.2.2.2.2.2.2.1) (nI u.2.2.2.2.2.2.2.1)) H locs ∧ lv_has ls 4 [(0, .ref b), (1, .ref (h 0)), (2, .ref (g 0)), (3, .int (nI i))] → W p l e room_1 s m #[Value.ref b] below meth c H locs 10 306 (lw_Z below #[Value.ref b] s) (F0 m 551 ls []) := by
    intro u v H locs ls hI
    obtain ⟨hJ, w, hl⟩ := hI
    refine lv_iinc (v := nI (i + 4)) (lv' := [(3, .int (nI (i + 4))), (0, .ref b), (1, .ref (h 0)), (2, .ref (g 0))]) hx hb dL_law_551 hl (k := 3) rfl (nI_add _ 4) (by decide) rfl (fun ls hl => ?_)
    refine lv_goto (tgt := 18) hx hb dL_law_554 (by decide) ?_
    exact ih (i + 4) u v _ _ _ (by first | omega | (dsimp only; omega)) ⟨by omega, hJ, w, lv_sub hl [1, 2, 3, 0] rfl⟩
  refine lv_aload_n hx hb dL_law_26 rfl (lv_at hl 0 rfl) ?_
  refine lv_iload_n hx hb dL_law_27 rfl (lv_at hl 3 rfl) ?_
  refine om_sld (i := i) hx hb hX hbl hbA w (by omega) hL dL_law_28 ?_
  refine lv_bipush (v := nI 31) hx hb dL_law_29 (by decide) ?_
  refine lv_iand hx hb dL_law_31 ?_
  obtain ⟨j, hj, ej⟩ := pk_andE (xs i) (m := nI 31) 5 (by decide)
  refine lv_topi (fun y_ ey_ => ?_)
  have ey_ : y_ = nI j := ey_.trans ej
  subst ey_
  rcases (show j = 0 ∨ j = 1 ∨ j = 2 ∨ j = 3 ∨ j = 4 ∨ j = 5 ∨ j = 6 ∨ j = 7 ∨ j = 8 ∨ j = 9 ∨ j = 10 ∨ j = 11 ∨ j = 12 ∨ j = 13 ∨ j = 14 ∨ j = 15 ∨ j = 16 ∨ j = 17 ∨ j = 18 ∨ 19 ≤ j by omega) with rfl | rfl | rfl | rfl | rfl | rfl | rfl | rfl | rfl | rfl | rfl | rfl | rfl | rfl | rfl | rfl | rfl | rfl | rfl | hj19
  · refine lv_tableIn (off := 92) (tgt := 124) hx hb dL_law_32 (by decide) (by decide) (by decide) (by decide) ?_
    refine lv_aload_n hx hb dL_law_124 rfl (lv_at hl 1 rfl) ?_
    refine lv_aload_n hx hb dL_law_125 rfl (lv_at hl 0 rfl) ?_
    refine lv_iload_n hx hb dL_law_126 rfl (lv_at hl 3 rfl) ?_
    refine lv_iconst (v := nI 1) hx hb dL_law_127 (by decide) ?_
    refine om_iadd hx hb dL_law_128 ?_
    refine om_sld (i := i + 1) hx hb hX hbl hbA w (by omega) hL dL_law_129 ?_
    refine om_calli (Wr := om_Y g d vl bs (nI n) (nI k)) (As := [.int (xs (i + 1))]) (rest := []) C w (mX_pattern l D d h tx mt pt bl ab fl n k z cd (xs (i + 1)) hI) [0, 1, 2, 3, 4, 5, 6] [7, 8, 9] rfl rfl rfl rfl (by decide) rfl rfl (cwV 1 C.1.2.2.2.2 (lw_V q55 q56 q57 q13 q58) rfl rfl rfl (by decide +kernel) ⟨Nat.le_of_ble_eq_true rfl, Nat.le_of_ble_eq_true rfl⟩) rfl hl.1 rfl (Nat.le_of_ble_eq_true rfl) dL_law_130 ⟨Nat.le_of_ble_eq_true rfl, Nat.le_of_ble_eq_true rfl⟩ (fun r_1 u_1 H locs hp_1 w => ?_)
    obtain ⟨tx1, mt1, pt1, bl1, ab1, fl1, n1, k1, z1, cd1⟩ := u_1
    obtain ⟨hI1, hp_1⟩ := hp_1
    have hI1 : om_I tx1 mt1 pt1 bl1 ab1 fl1 n1 k1 z1 cd1 := hI1
    have w : om_H D A s (om_Y g d vl bs (nI n) (nI k) ++ om_X h d tx1 mt1 pt1 bl1 ab1 fl1 (nI n1) (nI k1) (nI z1) cd1) H locs := w
    refine lv_aload_n hx hb dL_law_133 rfl (lv_at hl 2 rfl) ?_
    refine lv_aload_n hx hb dL_law_134 rfl (lv_at hl 0 rfl) ?_
    refine lv_iload_n hx hb dL_law_135 rfl (lv_at hl 3 rfl) ?_
    refine lv_iconst (v := nI 1) hx hb dL_law_136 (by decide) ?_
    refine om_iadd hx hb dL_law_137 ?_
    refine om_sld (i := i + 1) hx hb hX hbl hbA w (by omega) hL dL_law_138 ?_
    refine om_calli (Wr := om_X h d tx1 mt1 pt1 bl1 ab1 fl1 (nI n1) (nI k1) (nI z1) cd1) (As := [.int (xs (i + 1))]) (rest := [.int r_1]) C w (mY_pattern l D d g vl bs n k (xs (i + 1)) hn hk) [0, 1, 2] [3, 4, 5, 6, 7, 8, 9] rfl rfl rfl rfl (by decide) rfl rfl (cwV 1 C.1.2.2.2.2 (lw_V q182 q183 q184 q14 q185) rfl rfl rfl (by decide +kernel) ⟨Nat.le_of_ble_eq_true rfl, Nat.le_of_ble_eq_true rfl⟩) rfl hl.1 rfl (Nat.le_of_ble_eq_true rfl) dL_law_139 ⟨Nat.le_of_ble_eq_true rfl, Nat.le_of_ble_eq_true rfl⟩ (fun r_2 u_2 H locs hp_2 w => ?_)
    obtain ⟨vl1, bs1, n2, k2⟩ := u_2
    have hE : om_E r_1 r_2 tx1 pt1 vl1 n1 n2 k1 k2 := tie_pattern hR hp_1 hp_2
    obtain ⟨er, en, ek, hR1⟩ := hE
    have w : om_H D A s (om_X h d tx1 mt1 pt1 bl1 ab1 fl1 (nI n1) (nI k1) (nI z1) cd1 ++ om_Y g d vl1 bs1 (nI n2) (nI k2)) H locs := w
    rw [en, ek] at w
    refine lv_icmp_eq (tgt := 551) hx hb dL_law_142 (by decide) (fun c_1 => ?_) (fun c_1 => absurd er c_1)
    exact back (tx1, mt1, pt1, bl1, ab1, fl1, n1, k1, z1, cd1) (vl1, bs1) _ _ _ ⟨⟨hI1, hR1⟩, w, hl⟩
  · refine lv_tableIn (off := 115) (tgt := 147) hx hb dL_law_32 (by decide) (by decide) (by decide) (by decide) ?_
    refine lv_aload_n hx hb dL_law_147 rfl (lv_at hl 1 rfl) ?_
    refine om_calli (Wr := om_Y g d vl bs (nI n) (nI k)) (As := []) (rest := []) C w (mX_clearPattern l D d h tx mt pt bl ab fl n k z cd  hI) [0, 1, 2, 3, 4, 5, 6] [7, 8, 9] rfl rfl rfl rfl (by decide) rfl rfl (cwV 0 C.1.2.2.2.2 (lw_V q63 q64 q65 q13 q66) rfl rfl rfl (by decide +kernel) ⟨Nat.le_of_ble_eq_true rfl, Nat.le_of_ble_eq_true rfl⟩) rfl hl.1 rfl (Nat.le_of_ble_eq_true rfl) dL_law_148 ⟨Nat.le_of_ble_eq_true rfl, Nat.le_of_ble_eq_true rfl⟩ (fun r_1 u_1 H locs hp_1 w => ?_)
    obtain ⟨tx1, mt1, pt1, bl1, ab1, fl1, n1, k1, z1, cd1⟩ := u_1
    obtain ⟨hI1, hp_1⟩ := hp_1
    have hI1 : om_I tx1 mt1 pt1 bl1 ab1 fl1 n1 k1 z1 cd1 := hI1
    have w : om_H D A s (om_Y g d vl bs (nI n) (nI k) ++ om_X h d tx1 mt1 pt1 bl1 ab1 fl1 (nI n1) (nI k1) (nI z1) cd1) H locs := w
    refine lv_aload_n hx hb dL_law_151 rfl (lv_at hl 2 rfl) ?_
    refine om_calli (Wr := om_X h d tx1 mt1 pt1 bl1 ab1 fl1 (nI n1) (nI k1) (nI z1) cd1) (As := []) (rest := [.int r_1]) C w (mY_clearPattern l D d g vl bs n k  hn hk) [0, 1, 2] [3, 4, 5, 6, 7, 8, 9] rfl rfl rfl rfl (by decide) rfl rfl (cwV 0 C.1.2.2.2.2 (lw_V q186 q187 q188 q14 q189) rfl rfl rfl (by decide +kernel) ⟨Nat.le_of_ble_eq_true rfl, Nat.le_of_ble_eq_true rfl⟩) rfl hl.1 rfl (Nat.le_of_ble_eq_true rfl) dL_law_152 ⟨Nat.le_of_ble_eq_true rfl, Nat.le_of_ble_eq_true rfl⟩ (fun r_2 u_2 H locs hp_2 w => ?_)
    obtain ⟨vl1, bs1, n2, k2⟩ := u_2
    have hE : om_E r_1 r_2 tx1 pt1 vl1 n1 n2 k1 k2 := tie_clear hR hp_1 hp_2
    obtain ⟨er, en, ek, hR1⟩ := hE
    have w : om_H D A s (om_X h d tx1 mt1 pt1 bl1 ab1 fl1 (nI n1) (nI k1) (nI z1) cd1 ++ om_Y g d vl1 bs1 (nI n2) (nI k2)) H locs := w
    rw [en, ek] at w
    refine lv_icmp_eq (tgt := 551) hx hb dL_law_155 (by decide) (fun c_1 => ?_) (fun c_1 => absurd er c_1)
    exact back (tx1, mt1, pt1, bl1, ab1, fl1, n1, k1, z1, cd1) (vl1, bs1) _ _ _ ⟨⟨hI1, hR1⟩, w, hl⟩
  · refine lv_tableIn (off := 128) (tgt := 160) hx hb dL_law_32 (by decide) (by decide) (by decide) (by decide) ?_
    refine lv_aload_n hx hb dL_law_160 rfl (lv_at hl 1 rfl) ?_
    refine lv_aload_n hx hb dL_law_161 rfl (lv_at hl 0 rfl) ?_
    refine lv_iload_n hx hb dL_law_162 rfl (lv_at hl 3 rfl) ?_
    refine lv_iconst (v := nI 1) hx hb dL_law_163 (by decide) ?_
    refine om_iadd hx hb dL_law_164 ?_
    refine om_sld (i := i + 1) hx hb hX hbl hbA w (by omega) hL dL_law_165 ?_
    refine lv_aload_n hx hb dL_law_166 rfl (lv_at hl 0 rfl) ?_
    refine lv_iload_n hx hb dL_law_167 rfl (lv_at hl 3 rfl) ?_
    refine lv_iconst (v := nI 2) hx hb dL_law_168 (by decide) ?_
    refine om_iadd hx hb dL_law_169 ?_
    refine om_sld (i := i + 2) hx hb hX hbl hbA w (by omega) hL dL_law_170 ?_
    refine om_calli (Wr := om_Y g d vl bs (nI n) (nI k)) (As := [.int (xs (i + 1)), .int (xs (i + 2))]) (rest := []) C w (mX_take l D d h tx mt pt bl ab fl n k z cd (xs (i + 1)) (xs (i + 2)) hI) [0, 1, 2, 3, 4, 5, 6] [7, 8, 9] rfl rfl rfl rfl (by decide) rfl rfl (cwV 2 C.1.2.2.2.2 (lw_V q67 q68 q69 q13 q70) rfl rfl rfl (by decide +kernel) ⟨Nat.le_of_ble_eq_true rfl, Nat.le_of_ble_eq_true rfl⟩) rfl hl.1 rfl (Nat.le_of_ble_eq_true rfl) dL_law_171 ⟨Nat.le_of_ble_eq_true rfl, Nat.le_of_ble_eq_true rfl⟩ (fun r_1 u_1 H locs hp_1 w => ?_)
    obtain ⟨tx1, mt1, pt1, bl1, ab1, fl1, n1, k1, z1, cd1⟩ := u_1
    obtain ⟨hI1, hp_1⟩ := hp_1
    have hI1 : om_I tx1 mt1 pt1 bl1 ab1 fl1 n1 k1 z1 cd1 := hI1
    have w : om_H D A s (om_Y g d vl bs (nI n) (nI k) ++ om_X h d tx1 mt1 pt1 bl1 ab1 fl1 (nI n1) (nI k1) (nI z1) cd1) H locs := w
    refine lv_aload_n hx hb dL_law_174 rfl (lv_at hl 2 rfl) ?_
    refine lv_aload_n hx hb dL_law_175 rfl (lv_at hl 0 rfl) ?_
    refine lv_iload_n hx hb dL_law_176 rfl (lv_at hl 3 rfl) ?_
    refine lv_iconst (v := nI 1) hx hb dL_law_177 (by decide) ?_
    refine om_iadd hx hb dL_law_178 ?_
    refine om_sld (i := i + 1) hx hb hX hbl hbA w (by omega) hL dL_law_179 ?_
    refine lv_aload_n hx hb dL_law_180 rfl (lv_at hl 0 rfl) ?_
    refine lv_iload_n hx hb dL_law_181 rfl (lv_at hl 3 rfl) ?_
    refine lv_iconst (v := nI 2) hx hb dL_law_182 (by decide) ?_
    refine om_iadd hx hb dL_law_183 ?_
    refine om_sld (i := i + 2) hx hb hX hbl hbA w (by omega) hL dL_law_184 ?_
    refine om_calli (Wr := om_X h d tx1 mt1 pt1 bl1 ab1 fl1 (nI n1) (nI k1) (nI z1) cd1) (As := [.int (xs (i + 1)), .int (xs (i + 2))]) (rest := [.int r_1]) C w (mY_take l D d g vl bs n k (xs (i + 1)) (xs (i + 2)) hn hk) [0, 1, 2] [3, 4, 5, 6, 7, 8, 9] rfl rfl rfl rfl (by decide) rfl rfl (cwV 2 C.1.2.2.2.2 (lw_V q190 q191 q192 q14 q193) rfl rfl rfl (by decide +kernel) ⟨Nat.le_of_ble_eq_true rfl, Nat.le_of_ble_eq_true rfl⟩) rfl hl.1 rfl (Nat.le_of_ble_eq_true rfl) dL_law_185 ⟨Nat.le_of_ble_eq_true rfl, Nat.le_of_ble_eq_true rfl⟩ (fun r_2 u_2 H locs hp_2 w => ?_)
    obtain ⟨vl1, bs1, n2, k2⟩ := u_2
    have hE : om_E r_1 r_2 tx1 pt1 vl1 n1 n2 k1 k2 := tie_take hR hn hp_1 hp_2
    obtain ⟨er, en, ek, hR1⟩ := hE
    have w : om_H D A s (om_X h d tx1 mt1 pt1 bl1 ab1 fl1 (nI n1) (nI k1) (nI z1) cd1 ++ om_Y g d vl1 bs1 (nI n2) (nI k2)) H locs := w
    rw [en, ek] at w
    refine lv_icmp_eq (tgt := 551) hx hb dL_law_188 (by decide) (fun c_1 => ?_) (fun c_1 => absurd er c_1)
    exact back (tx1, mt1, pt1, bl1, ab1, fl1, n1, k1, z1, cd1) (vl1, bs1) _ _ _ ⟨⟨hI1, hR1⟩, w, hl⟩
  · refine lv_tableIn (off := 161) (tgt := 193) hx hb dL_law_32 (by decide) (by decide) (by decide) (by decide) ?_
    refine lv_aload_n hx hb dL_law_193 rfl (lv_at hl 1 rfl) ?_
    refine lv_aload_n hx hb dL_law_194 rfl (lv_at hl 0 rfl) ?_
    refine lv_iload_n hx hb dL_law_195 rfl (lv_at hl 3 rfl) ?_
    refine lv_iconst (v := nI 1) hx hb dL_law_196 (by decide) ?_
    refine om_iadd hx hb dL_law_197 ?_
    refine om_sld (i := i + 1) hx hb hX hbl hbA w (by omega) hL dL_law_198 ?_
    refine om_calli (Wr := om_Y g d vl bs (nI n) (nI k)) (As := [.int (xs (i + 1))]) (rest := []) C w (mX_feed l D d h tx mt pt bl ab fl n k z cd (xs (i + 1)) hI) [0, 1, 2, 3, 4, 5, 6] [7, 8, 9] rfl rfl rfl rfl (by decide) rfl rfl (cwV 1 C.1.2.2.2.2 (lw_V q71 q72 q73 q13 q74) rfl rfl rfl (by decide +kernel) ⟨Nat.le_of_ble_eq_true rfl, Nat.le_of_ble_eq_true rfl⟩) rfl hl.1 rfl (Nat.le_of_ble_eq_true rfl) dL_law_199 ⟨Nat.le_of_ble_eq_true rfl, Nat.le_of_ble_eq_true rfl⟩ (fun r_1 u_1 H locs hp_1 w => ?_)
    obtain ⟨tx1, mt1, pt1, bl1, ab1, fl1, n1, k1, z1, cd1⟩ := u_1
    obtain ⟨hI1, hp_1⟩ := hp_1
    have hI1 : om_I tx1 mt1 pt1 bl1 ab1 fl1 n1 k1 z1 cd1 := hI1
    have w : om_H D A s (om_Y g d vl bs (nI n) (nI k) ++ om_X h d tx1 mt1 pt1 bl1 ab1 fl1 (nI n1) (nI k1) (nI z1) cd1) H locs := w
    refine lv_aload_n hx hb dL_law_202 rfl (lv_at hl 2 rfl) ?_
    refine lv_aload_n hx hb dL_law_203 rfl (lv_at hl 0 rfl) ?_
    refine lv_iload_n hx hb dL_law_204 rfl (lv_at hl 3 rfl) ?_
    refine lv_iconst (v := nI 1) hx hb dL_law_205 (by decide) ?_
    refine om_iadd hx hb dL_law_206 ?_
    refine om_sld (i := i + 1) hx hb hX hbl hbA w (by omega) hL dL_law_207 ?_
    refine om_calli (Wr := om_X h d tx1 mt1 pt1 bl1 ab1 fl1 (nI n1) (nI k1) (nI z1) cd1) (As := [.int (xs (i + 1))]) (rest := [.int r_1]) C w (mY_feed l D d g vl bs n k (xs (i + 1)) hn hk) [0, 1, 2] [3, 4, 5, 6, 7, 8, 9] rfl rfl rfl rfl (by decide) rfl rfl (cwV 1 C.1.2.2.2.2 (lw_V q194 q195 q196 q14 q197) rfl rfl rfl (by decide +kernel) ⟨Nat.le_of_ble_eq_true rfl, Nat.le_of_ble_eq_true rfl⟩) rfl hl.1 rfl (Nat.le_of_ble_eq_true rfl) dL_law_208 ⟨Nat.le_of_ble_eq_true rfl, Nat.le_of_ble_eq_true rfl⟩ (fun r_2 u_2 H locs hp_2 w => ?_)
    obtain ⟨vl1, bs1, n2, k2⟩ := u_2
    have hE : om_E r_1 r_2 tx1 pt1 vl1 n1 n2 k1 k2 := tie_feed hR hp_1 hp_2
    obtain ⟨er, en, ek, hR1⟩ := hE
    have w : om_H D A s (om_X h d tx1 mt1 pt1 bl1 ab1 fl1 (nI n1) (nI k1) (nI z1) cd1 ++ om_Y g d vl1 bs1 (nI n2) (nI k2)) H locs := w
    rw [en, ek] at w
    refine lv_icmp_eq (tgt := 551) hx hb dL_law_211 (by decide) (fun c_1 => ?_) (fun c_1 => absurd er c_1)
    exact back (tx1, mt1, pt1, bl1, ab1, fl1, n1, k1, z1, cd1) (vl1, bs1) _ _ _ ⟨⟨hI1, hR1⟩, w, hl⟩
  · refine lv_tableIn (off := 184) (tgt := 216) hx hb dL_law_32 (by decide) (by decide) (by decide) (by decide) ?_
    refine lv_aload_n hx hb dL_law_216 rfl (lv_at hl 1 rfl) ?_
    refine lv_aload_n hx hb dL_law_217 rfl (lv_at hl 0 rfl) ?_
    refine lv_iload_n hx hb dL_law_218 rfl (lv_at hl 3 rfl) ?_
    refine lv_iconst (v := nI 1) hx hb dL_law_219 (by decide) ?_
    refine om_iadd hx hb dL_law_220 ?_
    refine om_sld (i := i + 1) hx hb hX hbl hbA w (by omega) hL dL_law_221 ?_
    refine lv_aload_n hx hb dL_law_222 rfl (lv_at hl 0 rfl) ?_
    refine lv_iload_n hx hb dL_law_223 rfl (lv_at hl 3 rfl) ?_
    refine lv_iconst (v := nI 2) hx hb dL_law_224 (by decide) ?_
    refine om_iadd hx hb dL_law_225 ?_
    refine om_sld (i := i + 2) hx hb hX hbl hbA w (by omega) hL dL_law_226 ?_
    refine lv_aload_n hx hb dL_law_227 rfl (lv_at hl 0 rfl) ?_
    refine lv_iload_n hx hb dL_law_228 rfl (lv_at hl 3 rfl) ?_
    refine lv_iconst (v := nI 3) hx hb dL_law_229 (by decide) ?_
    refine om_iadd hx hb dL_law_230 ?_
    refine om_sld (i := i + 3) hx hb hX hbl hbA w (by omega) hL dL_law_231 ?_
    refine om_calli (Wr := om_Y g d vl bs (nI n) (nI k)) (As := [.int (xs (i + 1)), .int (xs (i + 2)), .int (xs (i + 3))]) (rest := []) C w (mX_ramp l D d h tx mt pt bl ab fl n k z cd (xs (i + 1)) (xs (i + 2)) (xs (i + 3)) hI) [0, 1, 2, 3, 4, 5, 6] [7, 8, 9] rfl rfl rfl rfl (by decide) rfl rfl (cwV 3 C.1.2.2.2.2 (lw_V q75 q76 q77 q13 q78) rfl rfl rfl (by decide +kernel) ⟨Nat.le_of_ble_eq_true rfl, Nat.le_of_ble_eq_true rfl⟩) rfl hl.1 rfl (Nat.le_of_ble_eq_true rfl) dL_law_232 ⟨Nat.le_of_ble_eq_true rfl, Nat.le_of_ble_eq_true rfl⟩ (fun r_1 u_1 H locs hp_1 w => ?_)
    obtain ⟨tx1, mt1, pt1, bl1, ab1, fl1, n1, k1, z1, cd1⟩ := u_1
    obtain ⟨hI1, hp_1⟩ := hp_1
    have hI1 : om_I tx1 mt1 pt1 bl1 ab1 fl1 n1 k1 z1 cd1 := hI1
    have w : om_H D A s (om_Y g d vl bs (nI n) (nI k) ++ om_X h d tx1 mt1 pt1 bl1 ab1 fl1 (nI n1) (nI k1) (nI z1) cd1) H locs := w
    refine lv_aload_n hx hb dL_law_235 rfl (lv_at hl 2 rfl) ?_
    refine lv_aload_n hx hb dL_law_236 rfl (lv_at hl 0 rfl) ?_
    refine lv_iload_n hx hb dL_law_237 rfl (lv_at hl 3 rfl) ?_
    refine lv_iconst (v := nI 1) hx hb dL_law_238 (by decide) ?_
    refine om_iadd hx hb dL_law_239 ?_
    refine om_sld (i := i + 1) hx hb hX hbl hbA w (by omega) hL dL_law_240 ?_
    refine lv_aload_n hx hb dL_law_241 rfl (lv_at hl 0 rfl) ?_
    refine lv_iload_n hx hb dL_law_242 rfl (lv_at hl 3 rfl) ?_
    refine lv_iconst (v := nI 2) hx hb dL_law_243 (by decide) ?_
    refine om_iadd hx hb dL_law_244 ?_
    refine om_sld (i := i + 2) hx hb hX hbl hbA w (by omega) hL dL_law_245 ?_
    refine lv_aload_n hx hb dL_law_246 rfl (lv_at hl 0 rfl) ?_
    refine lv_iload_n hx hb dL_law_247 rfl (lv_at hl 3 rfl) ?_
    refine lv_iconst (v := nI 3) hx hb dL_law_248 (by decide) ?_
    refine om_iadd hx hb dL_law_249 ?_
    refine om_sld (i := i + 3) hx hb hX hbl hbA w (by omega) hL dL_law_250 ?_
    refine om_calli (Wr := om_X h d tx1 mt1 pt1 bl1 ab1 fl1 (nI n1) (nI k1) (nI z1) cd1) (As := [.int (xs (i + 1)), .int (xs (i + 2)), .int (xs (i + 3))]) (rest := [.int r_1]) C w (mY_ramp l D d g vl bs n k (xs (i + 1)) (xs (i + 2)) (xs (i + 3)) hn hk) [0, 1, 2] [3, 4, 5, 6, 7, 8, 9] rfl rfl rfl rfl (by decide) rfl rfl (cwV 3 C.1.2.2.2.2 (lw_V q198 q199 q200 q14 q201) rfl rfl rfl (by decide +kernel) ⟨Nat.le_of_ble_eq_true rfl, Nat.le_of_ble_eq_true rfl⟩) rfl hl.1 rfl (Nat.le_of_ble_eq_true rfl) dL_law_251 ⟨Nat.le_of_ble_eq_true rfl, Nat.le_of_ble_eq_true rfl⟩ (fun r_2 u_2 H locs hp_2 w => ?_)
    obtain ⟨vl1, bs1, n2, k2⟩ := u_2
    have hE : om_E r_1 r_2 tx1 pt1 vl1 n1 n2 k1 k2 := tie_ramp hR hp_1 hp_2
    obtain ⟨er, en, ek, hR1⟩ := hE
    have w : om_H D A s (om_X h d tx1 mt1 pt1 bl1 ab1 fl1 (nI n1) (nI k1) (nI z1) cd1 ++ om_Y g d vl1 bs1 (nI n2) (nI k2)) H locs := w
    rw [en, ek] at w
    refine lv_icmp_eq (tgt := 551) hx hb dL_law_254 (by decide) (fun c_1 => ?_) (fun c_1 => absurd er c_1)
    exact back (tx1, mt1, pt1, bl1, ab1, fl1, n1, k1, z1, cd1) (vl1, bs1) _ _ _ ⟨⟨hI1, hR1⟩, w, hl⟩
  · refine lv_tableIn (off := 227) (tgt := 259) hx hb dL_law_32 (by decide) (by decide) (by decide) (by decide) ?_
    refine lv_aload_n hx hb dL_law_259 rfl (lv_at hl 1 rfl) ?_
    refine lv_aload_n hx hb dL_law_260 rfl (lv_at hl 0 rfl) ?_
    refine lv_iload_n hx hb dL_law_261 rfl (lv_at hl 3 rfl) ?_
    refine lv_iconst (v := nI 1) hx hb dL_law_262 (by decide) ?_
    refine om_iadd hx hb dL_law_263 ?_
    refine om_sld (i := i + 1) hx hb hX hbl hbA w (by omega) hL dL_law_264 ?_
    refine lv_aload_n hx hb dL_law_265 rfl (lv_at hl 0 rfl) ?_
    refine lv_iload_n hx hb dL_law_266 rfl (lv_at hl 3 rfl) ?_
    refine lv_iconst (v := nI 2) hx hb dL_law_267 (by decide) ?_
    refine om_iadd hx hb dL_law_268 ?_
    refine om_sld (i := i + 2) hx hb hX hbl hbA w (by omega) hL dL_law_269 ?_
    refine lv_aload_n hx hb dL_law_270 rfl (lv_at hl 0 rfl) ?_
    refine lv_iload_n hx hb dL_law_271 rfl (lv_at hl 3 rfl) ?_
    refine lv_iconst (v := nI 3) hx hb dL_law_272 (by decide) ?_
    refine om_iadd hx hb dL_law_273 ?_
    refine om_sld (i := i + 3) hx hb hX hbl hbA w (by omega) hL dL_law_274 ?_
    refine om_calli (Wr := om_Y g d vl bs (nI n) (nI k)) (As := [.int (xs (i + 1)), .int (xs (i + 2)), .int (xs (i + 3))]) (rest := []) C w (mX_echo l D d h tx mt pt bl ab fl n k z cd (xs (i + 1)) (xs (i + 2)) (xs (i + 3)) hI) [0, 1, 2, 3, 4, 5, 6] [7, 8, 9] rfl rfl rfl rfl (by decide) rfl rfl (cwV 3 C.1.2.2.2.2 (lw_V q79 q80 q81 q13 q82) rfl rfl rfl (by decide +kernel) ⟨Nat.le_of_ble_eq_true rfl, Nat.le_of_ble_eq_true rfl⟩) rfl hl.1 rfl (Nat.le_of_ble_eq_true rfl) dL_law_275 ⟨Nat.le_of_ble_eq_true rfl, Nat.le_of_ble_eq_true rfl⟩ (fun r_1 u_1 H locs hp_1 w => ?_)
    obtain ⟨tx1, mt1, pt1, bl1, ab1, fl1, n1, k1, z1, cd1⟩ := u_1
    obtain ⟨hI1, hp_1⟩ := hp_1
    have hI1 : om_I tx1 mt1 pt1 bl1 ab1 fl1 n1 k1 z1 cd1 := hI1
    have w : om_H D A s (om_Y g d vl bs (nI n) (nI k) ++ om_X h d tx1 mt1 pt1 bl1 ab1 fl1 (nI n1) (nI k1) (nI z1) cd1) H locs := w
    refine lv_aload_n hx hb dL_law_278 rfl (lv_at hl 2 rfl) ?_
    refine lv_aload_n hx hb dL_law_279 rfl (lv_at hl 0 rfl) ?_
    refine lv_iload_n hx hb dL_law_280 rfl (lv_at hl 3 rfl) ?_
    refine lv_iconst (v := nI 1) hx hb dL_law_281 (by decide) ?_
    refine om_iadd hx hb dL_law_282 ?_
    refine om_sld (i := i + 1) hx hb hX hbl hbA w (by omega) hL dL_law_283 ?_
    refine lv_aload_n hx hb dL_law_284 rfl (lv_at hl 0 rfl) ?_
    refine lv_iload_n hx hb dL_law_285 rfl (lv_at hl 3 rfl) ?_
    refine lv_iconst (v := nI 2) hx hb dL_law_286 (by decide) ?_
    refine om_iadd hx hb dL_law_287 ?_
    refine om_sld (i := i + 2) hx hb hX hbl hbA w (by omega) hL dL_law_288 ?_
    refine lv_aload_n hx hb dL_law_289 rfl (lv_at hl 0 rfl) ?_
    refine lv_iload_n hx hb dL_law_290 rfl (lv_at hl 3 rfl) ?_
    refine lv_iconst (v := nI 3) hx hb dL_law_291 (by decide) ?_
    refine om_iadd hx hb dL_law_292 ?_
    refine om_sld (i := i + 3) hx hb hX hbl hbA w (by omega) hL dL_law_293 ?_
    refine om_calli (Wr := om_X h d tx1 mt1 pt1 bl1 ab1 fl1 (nI n1) (nI k1) (nI z1) cd1) (As := [.int (xs (i + 1)), .int (xs (i + 2)), .int (xs (i + 3))]) (rest := [.int r_1]) C w (mY_echo l D d g vl bs n k (xs (i + 1)) (xs (i + 2)) (xs (i + 3)) hn hk) [0, 1, 2] [3, 4, 5, 6, 7, 8, 9] rfl rfl rfl rfl (by decide) rfl rfl (cwV 3 C.1.2.2.2.2 (lw_V q202 q203 q204 q14 q205) rfl rfl rfl (by decide +kernel) ⟨Nat.le_of_ble_eq_true rfl, Nat.le_of_ble_eq_true rfl⟩) rfl hl.1 rfl (Nat.le_of_ble_eq_true rfl) dL_law_294 ⟨Nat.le_of_ble_eq_true rfl, Nat.le_of_ble_eq_true rfl⟩ (fun r_2 u_2 H locs hp_2 w => ?_)
    obtain ⟨vl1, bs1, n2, k2⟩ := u_2
    have hE : om_E r_1 r_2 tx1 pt1 vl1 n1 n2 k1 k2 := tie_echo hR hp_1 hp_2
    obtain ⟨er, en, ek, hR1⟩ := hE
    have w : om_H D A s (om_X h d tx1 mt1 pt1 bl1 ab1 fl1 (nI n1) (nI k1) (nI z1) cd1 ++ om_Y g d vl1 bs1 (nI n2) (nI k2)) H locs := w
    rw [en, ek] at w
    refine lv_icmp_eq (tgt := 551) hx hb dL_law_297 (by decide) (fun c_1 => ?_) (fun c_1 => absurd er c_1)
    exact back (tx1, mt1, pt1, bl1, ab1, fl1, n1, k1, z1, cd1) (vl1, bs1) _ _ _ ⟨⟨hI1, hR1⟩, w, hl⟩
  · refine lv_tableIn (off := 270) (tgt := 302) hx hb dL_law_32 (by decide) (by decide) (by decide) (by decide) ?_
    refine lv_aload_n hx hb dL_law_302 rfl (lv_at hl 1 rfl) ?_
    refine lv_aload_n hx hb dL_law_303 rfl (lv_at hl 0 rfl) ?_
    refine lv_iload_n hx hb dL_law_304 rfl (lv_at hl 3 rfl) ?_
    refine lv_iconst (v := nI 1) hx hb dL_law_305 (by decide) ?_
    refine om_iadd hx hb dL_law_306 ?_
    refine om_sld (i := i + 1) hx hb hX hbl hbA w (by omega) hL dL_law_307 ?_
    refine om_calli (Wr := om_Y g d vl bs (nI n) (nI k)) (As := [.int (xs (i + 1))]) (rest := []) C w (mX_undo l D d h tx mt pt bl ab fl n k z cd (xs (i + 1)) hI) [0, 1, 2, 3, 4, 5, 6] [7, 8, 9] rfl rfl rfl rfl (by decide) rfl rfl (cwV 1 C.1.2.2.2.2 (lw_V q83 q84 q85 q13 q86) rfl rfl rfl (by decide +kernel) ⟨Nat.le_of_ble_eq_true rfl, Nat.le_of_ble_eq_true rfl⟩) rfl hl.1 rfl (Nat.le_of_ble_eq_true rfl) dL_law_308 ⟨Nat.le_of_ble_eq_true rfl, Nat.le_of_ble_eq_true rfl⟩ (fun r_1 u_1 H locs hp_1 w => ?_)
    obtain ⟨tx1, mt1, pt1, bl1, ab1, fl1, n1, k1, z1, cd1⟩ := u_1
    obtain ⟨hI1, hp_1⟩ := hp_1
    have hI1 : om_I tx1 mt1 pt1 bl1 ab1 fl1 n1 k1 z1 cd1 := hI1
    have w : om_H D A s (om_Y g d vl bs (nI n) (nI k) ++ om_X h d tx1 mt1 pt1 bl1 ab1 fl1 (nI n1) (nI k1) (nI z1) cd1) H locs := w
    refine lv_aload_n hx hb dL_law_311 rfl (lv_at hl 2 rfl) ?_
    refine lv_aload_n hx hb dL_law_312 rfl (lv_at hl 0 rfl) ?_
    refine lv_iload_n hx hb dL_law_313 rfl (lv_at hl 3 rfl) ?_
    refine lv_iconst (v := nI 1) hx hb dL_law_314 (by decide) ?_
    refine om_iadd hx hb dL_law_315 ?_
    refine om_sld (i := i + 1) hx hb hX hbl hbA w (by omega) hL dL_law_316 ?_
    refine om_calli (Wr := om_X h d tx1 mt1 pt1 bl1 ab1 fl1 (nI n1) (nI k1) (nI z1) cd1) (As := [.int (xs (i + 1))]) (rest := [.int r_1]) C w (mY_undo l D d g vl bs n k (xs (i + 1)) hn hk) [0, 1, 2] [3, 4, 5, 6, 7, 8, 9] rfl rfl rfl rfl (by decide) rfl rfl (cwV 1 C.1.2.2.2.2 (lw_V q206 q207 q208 q14 q209) rfl rfl rfl (by decide +kernel) ⟨Nat.le_of_ble_eq_true rfl, Nat.le_of_ble_eq_true rfl⟩) rfl hl.1 rfl (Nat.le_of_ble_eq_true rfl) dL_law_317 ⟨Nat.le_of_ble_eq_true rfl, Nat.le_of_ble_eq_true rfl⟩ (fun r_2 u_2 H locs hp_2 w => ?_)
    obtain ⟨vl1, bs1, n2, k2⟩ := u_2
    have hE : om_E r_1 r_2 tx1 pt1 vl1 n1 n2 k1 k2 := tie_undo hR hp_1 hp_2
    obtain ⟨er, en, ek, hR1⟩ := hE
    have w : om_H D A s (om_X h d tx1 mt1 pt1 bl1 ab1 fl1 (nI n1) (nI k1) (nI z1) cd1 ++ om_Y g d vl1 bs1 (nI n2) (nI k2)) H locs := w
    rw [en, ek] at w
    refine lv_icmp_eq (tgt := 551) hx hb dL_law_320 (by decide) (fun c_1 => ?_) (fun c_1 => absurd er c_1)
    exact back (tx1, mt1, pt1, bl1, ab1, fl1, n1, k1, z1, cd1) (vl1, bs1) _ _ _ ⟨⟨hI1, hR1⟩, w, hl⟩
  · refine lv_tableIn (off := 293) (tgt := 325) hx hb dL_law_32 (by decide) (by decide) (by decide) (by decide) ?_
    refine lv_aload_n hx hb dL_law_325 rfl (lv_at hl 1 rfl) ?_
    refine om_calli (Wr := om_Y g d vl bs (nI n) (nI k)) (As := []) (rest := []) C w (mX_length l D d h tx mt pt bl ab fl n k z cd  hI) [0, 1, 2, 3, 4, 5, 6] [7, 8, 9] rfl rfl rfl rfl (by decide) rfl rfl (cwV 0 C.1.2.2.2.2 (lw_V q87 q88 q89 q13 q90) rfl rfl rfl (by decide +kernel) ⟨Nat.le_of_ble_eq_true rfl, Nat.le_of_ble_eq_true rfl⟩) rfl hl.1 rfl (Nat.le_of_ble_eq_true rfl) dL_law_326 ⟨Nat.le_of_ble_eq_true rfl, Nat.le_of_ble_eq_true rfl⟩ (fun r_1 u_1 H locs hp_1 w => ?_)
    obtain ⟨tx1, mt1, pt1, bl1, ab1, fl1, n1, k1, z1, cd1⟩ := u_1
    obtain ⟨hI1, hp_1⟩ := hp_1
    have hI1 : om_I tx1 mt1 pt1 bl1 ab1 fl1 n1 k1 z1 cd1 := hI1
    have w : om_H D A s (om_Y g d vl bs (nI n) (nI k) ++ om_X h d tx1 mt1 pt1 bl1 ab1 fl1 (nI n1) (nI k1) (nI z1) cd1) H locs := w
    refine lv_aload_n hx hb dL_law_329 rfl (lv_at hl 2 rfl) ?_
    refine om_calli (Wr := om_X h d tx1 mt1 pt1 bl1 ab1 fl1 (nI n1) (nI k1) (nI z1) cd1) (As := []) (rest := [.int r_1]) C w (mY_length l D d g vl bs n k  hn hk) [0, 1, 2] [3, 4, 5, 6, 7, 8, 9] rfl rfl rfl rfl (by decide) rfl rfl (cwV 0 C.1.2.2.2.2 (lw_V q210 q211 q212 q14 q213) rfl rfl rfl (by decide +kernel) ⟨Nat.le_of_ble_eq_true rfl, Nat.le_of_ble_eq_true rfl⟩) rfl hl.1 rfl (Nat.le_of_ble_eq_true rfl) dL_law_330 ⟨Nat.le_of_ble_eq_true rfl, Nat.le_of_ble_eq_true rfl⟩ (fun r_2 u_2 H locs hp_2 w => ?_)
    obtain ⟨vl1, bs1, n2, k2⟩ := u_2
    have hE : om_E r_1 r_2 tx1 pt1 vl1 n1 n2 k1 k2 := tie_read hR hp_1 hp_2 (fun f g => f.trans g.symm)
    obtain ⟨er, en, ek, hR1⟩ := hE
    have w : om_H D A s (om_X h d tx1 mt1 pt1 bl1 ab1 fl1 (nI n1) (nI k1) (nI z1) cd1 ++ om_Y g d vl1 bs1 (nI n2) (nI k2)) H locs := w
    rw [en, ek] at w
    refine lv_icmp_eq (tgt := 551) hx hb dL_law_333 (by decide) (fun c_1 => ?_) (fun c_1 => absurd er c_1)
    exact back (tx1, mt1, pt1, bl1, ab1, fl1, n1, k1, z1, cd1) (vl1, bs1) _ _ _ ⟨⟨hI1, hR1⟩, w, hl⟩
  · refine lv_tableIn (off := 306) (tgt := 338) hx hb dL_law_32 (by decide) (by decide) (by decide) (by decide) ?_
    refine lv_aload_n hx hb dL_law_338 rfl (lv_at hl 1 rfl) ?_
    refine om_calli (Wr := om_Y g d vl bs (nI n) (nI k)) (As := []) (rest := []) C w (mX_patternLength l D d h tx mt pt bl ab fl n k z cd  hI) [0, 1, 2, 3, 4, 5, 6] [7, 8, 9] rfl rfl rfl rfl (by decide) rfl rfl (cwV 0 C.1.2.2.2.2 (lw_V q91 q92 q93 q13 q94) rfl rfl rfl (by decide +kernel) ⟨Nat.le_of_ble_eq_true rfl, Nat.le_of_ble_eq_true rfl⟩) rfl hl.1 rfl (Nat.le_of_ble_eq_true rfl) dL_law_339 ⟨Nat.le_of_ble_eq_true rfl, Nat.le_of_ble_eq_true rfl⟩ (fun r_1 u_1 H locs hp_1 w => ?_)
    obtain ⟨tx1, mt1, pt1, bl1, ab1, fl1, n1, k1, z1, cd1⟩ := u_1
    obtain ⟨hI1, hp_1⟩ := hp_1
    have hI1 : om_I tx1 mt1 pt1 bl1 ab1 fl1 n1 k1 z1 cd1 := hI1
    have w : om_H D A s (om_Y g d vl bs (nI n) (nI k) ++ om_X h d tx1 mt1 pt1 bl1 ab1 fl1 (nI n1) (nI k1) (nI z1) cd1) H locs := w
    refine lv_aload_n hx hb dL_law_342 rfl (lv_at hl 2 rfl) ?_
    refine om_calli (Wr := om_X h d tx1 mt1 pt1 bl1 ab1 fl1 (nI n1) (nI k1) (nI z1) cd1) (As := []) (rest := [.int r_1]) C w (mY_patternLength l D d g vl bs n k  hn hk) [0, 1, 2] [3, 4, 5, 6, 7, 8, 9] rfl rfl rfl rfl (by decide) rfl rfl (cwV 0 C.1.2.2.2.2 (lw_V q214 q215 q216 q14 q217) rfl rfl rfl (by decide +kernel) ⟨Nat.le_of_ble_eq_true rfl, Nat.le_of_ble_eq_true rfl⟩) rfl hl.1 rfl (Nat.le_of_ble_eq_true rfl) dL_law_343 ⟨Nat.le_of_ble_eq_true rfl, Nat.le_of_ble_eq_true rfl⟩ (fun r_2 u_2 H locs hp_2 w => ?_)
    obtain ⟨vl1, bs1, n2, k2⟩ := u_2
    have hE : om_E r_1 r_2 tx1 pt1 vl1 n1 n2 k1 k2 := tie_read hR hp_1 hp_2 (fun f g => f.trans g.symm)
    obtain ⟨er, en, ek, hR1⟩ := hE
    have w : om_H D A s (om_X h d tx1 mt1 pt1 bl1 ab1 fl1 (nI n1) (nI k1) (nI z1) cd1 ++ om_Y g d vl1 bs1 (nI n2) (nI k2)) H locs := w
    rw [en, ek] at w
    refine lv_icmp_eq (tgt := 551) hx hb dL_law_346 (by decide) (fun c_1 => ?_) (fun c_1 => absurd er c_1)
    exact back (tx1, mt1, pt1, bl1, ab1, fl1, n1, k1, z1, cd1) (vl1, bs1) _ _ _ ⟨⟨hI1, hR1⟩, w, hl⟩
  · refine lv_tableIn (off := 319) (tgt := 351) hx hb dL_law_32 (by decide) (by decide) (by decide) (by decide) ?_
    refine lv_aload_n hx hb dL_law_351 rfl (lv_at hl 1 rfl) ?_
    refine lv_aload_n hx hb dL_law_352 rfl (lv_at hl 0 rfl) ?_
    refine lv_iload_n hx hb dL_law_353 rfl (lv_at hl 3 rfl) ?_
    refine lv_iconst (v := nI 1) hx hb dL_law_354 (by decide) ?_
    refine om_iadd hx hb dL_law_355 ?_
    refine om_sld (i := i + 1) hx hb hX hbl hbA w (by omega) hL dL_law_356 ?_
    refine om_calli (Wr := om_Y g d vl bs (nI n) (nI k)) (As := [.int (xs (i + 1))]) (rest := []) C w (mX_valueAt l D d h tx mt pt bl ab fl n k z cd (xs (i + 1)) hI) [0, 1, 2, 3, 4, 5, 6] [7, 8, 9] rfl rfl rfl rfl (by decide) rfl rfl (cwV 1 C.1.2.2.2.2 (lw_V q95 q96 q97 q13 q98) rfl rfl rfl (by decide +kernel) ⟨Nat.le_of_ble_eq_true rfl, Nat.le_of_ble_eq_true rfl⟩) rfl hl.1 rfl (Nat.le_of_ble_eq_true rfl) dL_law_357 ⟨Nat.le_of_ble_eq_true rfl, Nat.le_of_ble_eq_true rfl⟩ (fun r_1 u_1 H locs hp_1 w => ?_)
    obtain ⟨tx1, mt1, pt1, bl1, ab1, fl1, n1, k1, z1, cd1⟩ := u_1
    obtain ⟨hI1, hp_1⟩ := hp_1
    have hI1 : om_I tx1 mt1 pt1 bl1 ab1 fl1 n1 k1 z1 cd1 := hI1
    have w : om_H D A s (om_Y g d vl bs (nI n) (nI k) ++ om_X h d tx1 mt1 pt1 bl1 ab1 fl1 (nI n1) (nI k1) (nI z1) cd1) H locs := w
    refine lv_aload_n hx hb dL_law_360 rfl (lv_at hl 2 rfl) ?_
    refine lv_aload_n hx hb dL_law_361 rfl (lv_at hl 0 rfl) ?_
    refine lv_iload_n hx hb dL_law_362 rfl (lv_at hl 3 rfl) ?_
    refine lv_iconst (v := nI 1) hx hb dL_law_363 (by decide) ?_
    refine om_iadd hx hb dL_law_364 ?_
    refine om_sld (i := i + 1) hx hb hX hbl hbA w (by omega) hL dL_law_365 ?_
    refine om_calli (Wr := om_X h d tx1 mt1 pt1 bl1 ab1 fl1 (nI n1) (nI k1) (nI z1) cd1) (As := [.int (xs (i + 1))]) (rest := [.int r_1]) C w (mY_valueAt l D d g vl bs n k (xs (i + 1)) hn hk) [0, 1, 2] [3, 4, 5, 6, 7, 8, 9] rfl rfl rfl rfl (by decide) rfl rfl (cwV 1 C.1.2.2.2.2 (lw_V q218 q219 q220 q14 q221) rfl rfl rfl (by decide +kernel) ⟨Nat.le_of_ble_eq_true rfl, Nat.le_of_ble_eq_true rfl⟩) rfl hl.1 rfl (Nat.le_of_ble_eq_true rfl) dL_law_366 ⟨Nat.le_of_ble_eq_true rfl, Nat.le_of_ble_eq_true rfl⟩ (fun r_2 u_2 H locs hp_2 w => ?_)
    obtain ⟨vl1, bs1, n2, k2⟩ := u_2
    have hE : om_E r_1 r_2 tx1 pt1 vl1 n1 n2 k1 k2 := tie_read hR hp_1 hp_2 (fun f g => tie_valueAt hR hn f g)
    obtain ⟨er, en, ek, hR1⟩ := hE
    have w : om_H D A s (om_X h d tx1 mt1 pt1 bl1 ab1 fl1 (nI n1) (nI k1) (nI z1) cd1 ++ om_Y g d vl1 bs1 (nI n2) (nI k2)) H locs := w
    rw [en, ek] at w
    refine lv_icmp_eq (tgt := 551) hx hb dL_law_369 (by decide) (fun c_1 => ?_) (fun c_1 => absurd er c_1)
    exact back (tx1, mt1, pt1, bl1, ab1, fl1, n1, k1, z1, cd1) (vl1, bs1) _ _ _ ⟨⟨hI1, hR1⟩, w, hl⟩
  · refine lv_tableIn (off := 342) (tgt := 374) hx hb dL_law_32 (by decide) (by decide) (by decide) (by decide) ?_
    refine lv_aload_n hx hb dL_law_374 rfl (lv_at hl 1 rfl) ?_
    refine om_calli (Wr := om_Y g d vl bs (nI n) (nI k)) (As := []) (rest := []) C w (mX_occurrences l D d h tx mt pt bl ab fl n k z cd  hI) [0, 1, 2, 3, 4, 5, 6] [7, 8, 9] rfl rfl rfl rfl (by decide) rfl rfl (cwV 0 C.1.2.2.2.2 (lw_V q99 q100 q101 q13 q102) rfl rfl rfl (by decide +kernel) ⟨Nat.le_of_ble_eq_true rfl, Nat.le_of_ble_eq_true rfl⟩) rfl hl.1 rfl (Nat.le_of_ble_eq_true rfl) dL_law_375 ⟨Nat.le_of_ble_eq_true rfl, Nat.le_of_ble_eq_true rfl⟩ (fun r_1 u_1 H locs hp_1 w => ?_)
    obtain ⟨tx1, mt1, pt1, bl1, ab1, fl1, n1, k1, z1, cd1⟩ := u_1
    obtain ⟨hI1, hp_1⟩ := hp_1
    have hI1 : om_I tx1 mt1 pt1 bl1 ab1 fl1 n1 k1 z1 cd1 := hI1
    have w : om_H D A s (om_Y g d vl bs (nI n) (nI k) ++ om_X h d tx1 mt1 pt1 bl1 ab1 fl1 (nI n1) (nI k1) (nI z1) cd1) H locs := w
    refine lv_aload_n hx hb dL_law_378 rfl (lv_at hl 2 rfl) ?_
    refine om_calli (Wr := om_X h d tx1 mt1 pt1 bl1 ab1 fl1 (nI n1) (nI k1) (nI z1) cd1) (As := []) (rest := [.int r_1]) C w (mY_occurrences l D d g vl bs n k  hn hk) [0, 1, 2] [3, 4, 5, 6, 7, 8, 9] rfl rfl rfl rfl (by decide) rfl rfl (cwV 0 C.1.2.2.2.2 (lw_V q222 q223 q224 q14 q225) rfl rfl rfl (by decide +kernel) ⟨Nat.le_of_ble_eq_true rfl, Nat.le_of_ble_eq_true rfl⟩) rfl hl.1 rfl (Nat.le_of_ble_eq_true rfl) dL_law_379 ⟨Nat.le_of_ble_eq_true rfl, Nat.le_of_ble_eq_true rfl⟩ (fun r_2 u_2 H locs hp_2 w => ?_)
    obtain ⟨vl1, bs1, n2, k2⟩ := u_2
    have hE : om_E r_1 r_2 tx1 pt1 vl1 n1 n2 k1 k2 := tie_read hR hp_1 hp_2 (fun f g => tie_occurrences hR hn hk f g)
    obtain ⟨er, en, ek, hR1⟩ := hE
    have w : om_H D A s (om_X h d tx1 mt1 pt1 bl1 ab1 fl1 (nI n1) (nI k1) (nI z1) cd1 ++ om_Y g d vl1 bs1 (nI n2) (nI k2)) H locs := w
    rw [en, ek] at w
    refine lv_icmp_eq (tgt := 551) hx hb dL_law_382 (by decide) (fun c_1 => ?_) (fun c_1 => absurd er c_1)
    exact back (tx1, mt1, pt1, bl1, ab1, fl1, n1, k1, z1, cd1) (vl1, bs1) _ _ _ ⟨⟨hI1, hR1⟩, w, hl⟩
  · refine lv_tableIn (off := 355) (tgt := 387) hx hb dL_law_32 (by decide) (by decide) (by decide) (by decide) ?_
    refine lv_aload_n hx hb dL_law_387 rfl (lv_at hl 1 rfl) ?_
    refine lv_aload_n hx hb dL_law_388 rfl (lv_at hl 0 rfl) ?_
    refine lv_iload_n hx hb dL_law_389 rfl (lv_at hl 3 rfl) ?_
    refine lv_iconst (v := nI 1) hx hb dL_law_390 (by decide) ?_
    refine om_iadd hx hb dL_law_391 ?_
    refine om_sld (i := i + 1) hx hb hX hbl hbA w (by omega) hL dL_law_392 ?_
    refine om_calli (Wr := om_Y g d vl bs (nI n) (nI k)) (As := [.int (xs (i + 1))]) (rest := []) C w (mX_occurrence l D d h tx mt pt bl ab fl n k z cd (xs (i + 1)) hI) [0, 1, 2, 3, 4, 5, 6] [7, 8, 9] rfl rfl rfl rfl (by decide) rfl rfl (cwV 1 C.1.2.2.2.2 (lw_V q131 q132 q133 q13 q134) rfl rfl rfl (by decide +kernel) ⟨Nat.le_of_ble_eq_true rfl, Nat.le_of_ble_eq_true rfl⟩) rfl hl.1 rfl (Nat.le_of_ble_eq_true rfl) dL_law_393 ⟨Nat.le_of_ble_eq_true rfl, Nat.le_of_ble_eq_true rfl⟩ (fun r_1 u_1 H locs hp_1 w => ?_)
    obtain ⟨tx1, mt1, pt1, bl1, ab1, fl1, n1, k1, z1, cd1⟩ := u_1
    obtain ⟨hI1, hp_1⟩ := hp_1
    have hI1 : om_I tx1 mt1 pt1 bl1 ab1 fl1 n1 k1 z1 cd1 := hI1
    have w : om_H D A s (om_Y g d vl bs (nI n) (nI k) ++ om_X h d tx1 mt1 pt1 bl1 ab1 fl1 (nI n1) (nI k1) (nI z1) cd1) H locs := w
    refine lv_aload_n hx hb dL_law_396 rfl (lv_at hl 2 rfl) ?_
    refine lv_aload_n hx hb dL_law_397 rfl (lv_at hl 0 rfl) ?_
    refine lv_iload_n hx hb dL_law_398 rfl (lv_at hl 3 rfl) ?_
    refine lv_iconst (v := nI 1) hx hb dL_law_399 (by decide) ?_
    refine om_iadd hx hb dL_law_400 ?_
    refine om_sld (i := i + 1) hx hb hX hbl hbA w (by omega) hL dL_law_401 ?_
    refine om_calli (Wr := om_X h d tx1 mt1 pt1 bl1 ab1 fl1 (nI n1) (nI k1) (nI z1) cd1) (As := [.int (xs (i + 1))]) (rest := [.int r_1]) C w (mY_occurrence l D d g vl bs n k (xs (i + 1)) hn hk) [0, 1, 2] [3, 4, 5, 6, 7, 8, 9] rfl rfl rfl rfl (by decide) rfl rfl (cwV 1 C.1.2.2.2.2 (lw_V q238 q239 q240 q14 q241) rfl rfl rfl (by decide +kernel) ⟨Nat.le_of_ble_eq_true rfl, Nat.le_of_ble_eq_true rfl⟩) rfl hl.1 rfl (Nat.le_of_ble_eq_true rfl) dL_law_402 ⟨Nat.le_of_ble_eq_true rfl, Nat.le_of_ble_eq_true rfl⟩ (fun r_2 u_2 H locs hp_2 w => ?_)
    obtain ⟨vl1, bs1, n2, k2⟩ := u_2
    have hE : om_E r_1 r_2 tx1 pt1 vl1 n1 n2 k1 k2 := tie_read hR hp_1 hp_2 (fun f g => tie_occurrence hR hn hk f g)
    obtain ⟨er, en, ek, hR1⟩ := hE
    have w : om_H D A s (om_X h d tx1 mt1 pt1 bl1 ab1 fl1 (nI n1) (nI k1) (nI z1) cd1 ++ om_Y g d vl1 bs1 (nI n2) (nI k2)) H locs := w
    rw [en, ek] at w
    refine lv_icmp_eq (tgt := 551) hx hb dL_law_405 (by decide) (fun c_1 => ?_) (fun c_1 => absurd er c_1)
    exact back (tx1, mt1, pt1, bl1, ab1, fl1, n1, k1, z1, cd1) (vl1, bs1) _ _ _ ⟨⟨hI1, hR1⟩, w, hl⟩
  · refine lv_tableIn (off := 378) (tgt := 410) hx hb dL_law_32 (by decide) (by decide) (by decide) (by decide) ?_
    refine lv_aload_n hx hb dL_law_410 rfl (lv_at hl 1 rfl) ?_
    refine lv_aload_n hx hb dL_law_411 rfl (lv_at hl 0 rfl) ?_
    refine lv_iload_n hx hb dL_law_412 rfl (lv_at hl 3 rfl) ?_
    refine lv_iconst (v := nI 1) hx hb dL_law_413 (by decide) ?_
    refine om_iadd hx hb dL_law_414 ?_
    refine om_sld (i := i + 1) hx hb hX hbl hbA w (by omega) hL dL_law_415 ?_
    refine om_calli (Wr := om_Y g d vl bs (nI n) (nI k)) (As := [.int (xs (i + 1))]) (rest := []) C w (mX_occursAt l D d h tx mt pt bl ab fl n k z cd (xs (i + 1)) hI) [0, 1, 2, 3, 4, 5, 6] [7, 8, 9] rfl rfl rfl rfl (by decide) rfl rfl (cwV 1 C.1.2.2.2.2 (lw_V q135 q136 q137 q13 q138) rfl rfl rfl (by decide +kernel) ⟨Nat.le_of_ble_eq_true rfl, Nat.le_of_ble_eq_true rfl⟩) rfl hl.1 rfl (Nat.le_of_ble_eq_true rfl) dL_law_416 ⟨Nat.le_of_ble_eq_true rfl, Nat.le_of_ble_eq_true rfl⟩ (fun r_1 u_1 H locs hp_1 w => ?_)
    obtain ⟨tx1, mt1, pt1, bl1, ab1, fl1, n1, k1, z1, cd1⟩ := u_1
    obtain ⟨hI1, hp_1⟩ := hp_1
    have hI1 : om_I tx1 mt1 pt1 bl1 ab1 fl1 n1 k1 z1 cd1 := hI1
    have w : om_H D A s (om_Y g d vl bs (nI n) (nI k) ++ om_X h d tx1 mt1 pt1 bl1 ab1 fl1 (nI n1) (nI k1) (nI z1) cd1) H locs := w
    refine lv_aload_n hx hb dL_law_419 rfl (lv_at hl 2 rfl) ?_
    refine lv_aload_n hx hb dL_law_420 rfl (lv_at hl 0 rfl) ?_
    refine lv_iload_n hx hb dL_law_421 rfl (lv_at hl 3 rfl) ?_
    refine lv_iconst (v := nI 1) hx hb dL_law_422 (by decide) ?_
    refine om_iadd hx hb dL_law_423 ?_
    refine om_sld (i := i + 1) hx hb hX hbl hbA w (by omega) hL dL_law_424 ?_
    refine om_calli (Wr := om_X h d tx1 mt1 pt1 bl1 ab1 fl1 (nI n1) (nI k1) (nI z1) cd1) (As := [.int (xs (i + 1))]) (rest := [.int r_1]) C w (mY_occursAt l D d g vl bs n k (xs (i + 1)) hn hk) [0, 1, 2] [3, 4, 5, 6, 7, 8, 9] rfl rfl rfl rfl (by decide) rfl rfl (cwV 1 C.1.2.2.2.2 (lw_V q242 q243 q244 q14 q245) rfl rfl rfl (by decide +kernel) ⟨Nat.le_of_ble_eq_true rfl, Nat.le_of_ble_eq_true rfl⟩) rfl hl.1 rfl (Nat.le_of_ble_eq_true rfl) dL_law_425 ⟨Nat.le_of_ble_eq_true rfl, Nat.le_of_ble_eq_true rfl⟩ (fun r_2 u_2 H locs hp_2 w => ?_)
    obtain ⟨vl1, bs1, n2, k2⟩ := u_2
    have hE : om_E r_1 r_2 tx1 pt1 vl1 n1 n2 k1 k2 := tie_read hR hp_1 hp_2 (fun f g => tie_occursAt hR hn hk f g)
    obtain ⟨er, en, ek, hR1⟩ := hE
    have w : om_H D A s (om_X h d tx1 mt1 pt1 bl1 ab1 fl1 (nI n1) (nI k1) (nI z1) cd1 ++ om_Y g d vl1 bs1 (nI n2) (nI k2)) H locs := w
    rw [en, ek] at w
    refine lv_icmp_eq (tgt := 551) hx hb dL_law_428 (by decide) (fun c_1 => ?_) (fun c_1 => absurd er c_1)
    exact back (tx1, mt1, pt1, bl1, ab1, fl1, n1, k1, z1, cd1) (vl1, bs1) _ _ _ ⟨⟨hI1, hR1⟩, w, hl⟩
  · refine lv_tableIn (off := 401) (tgt := 433) hx hb dL_law_32 (by decide) (by decide) (by decide) (by decide) ?_
    refine lv_aload_n hx hb dL_law_433 rfl (lv_at hl 1 rfl) ?_
    refine lv_aload_n hx hb dL_law_434 rfl (lv_at hl 0 rfl) ?_
    refine lv_iload_n hx hb dL_law_435 rfl (lv_at hl 3 rfl) ?_
    refine lv_iconst (v := nI 1) hx hb dL_law_436 (by decide) ?_
    refine om_iadd hx hb dL_law_437 ?_
    refine om_sld (i := i + 1) hx hb hX hbl hbA w (by omega) hL dL_law_438 ?_
    refine om_calli (Wr := om_Y g d vl bs (nI n) (nI k)) (As := [.int (xs (i + 1))]) (rest := []) C w (mX_nextFrom l D d h tx mt pt bl ab fl n k z cd (xs (i + 1)) hI) [0, 1, 2, 3, 4, 5, 6] [7, 8, 9] rfl rfl rfl rfl (by decide) rfl rfl (cwV 1 C.1.2.2.2.2 (lw_V q139 q140 q141 q13 q142) rfl rfl rfl (by decide +kernel) ⟨Nat.le_of_ble_eq_true rfl, Nat.le_of_ble_eq_true rfl⟩) rfl hl.1 rfl (Nat.le_of_ble_eq_true rfl) dL_law_439 ⟨Nat.le_of_ble_eq_true rfl, Nat.le_of_ble_eq_true rfl⟩ (fun r_1 u_1 H locs hp_1 w => ?_)
    obtain ⟨tx1, mt1, pt1, bl1, ab1, fl1, n1, k1, z1, cd1⟩ := u_1
    obtain ⟨hI1, hp_1⟩ := hp_1
    have hI1 : om_I tx1 mt1 pt1 bl1 ab1 fl1 n1 k1 z1 cd1 := hI1
    have w : om_H D A s (om_Y g d vl bs (nI n) (nI k) ++ om_X h d tx1 mt1 pt1 bl1 ab1 fl1 (nI n1) (nI k1) (nI z1) cd1) H locs := w
    refine lv_aload_n hx hb dL_law_442 rfl (lv_at hl 2 rfl) ?_
    refine lv_aload_n hx hb dL_law_443 rfl (lv_at hl 0 rfl) ?_
    refine lv_iload_n hx hb dL_law_444 rfl (lv_at hl 3 rfl) ?_
    refine lv_iconst (v := nI 1) hx hb dL_law_445 (by decide) ?_
    refine om_iadd hx hb dL_law_446 ?_
    refine om_sld (i := i + 1) hx hb hX hbl hbA w (by omega) hL dL_law_447 ?_
    refine om_calli (Wr := om_X h d tx1 mt1 pt1 bl1 ab1 fl1 (nI n1) (nI k1) (nI z1) cd1) (As := [.int (xs (i + 1))]) (rest := [.int r_1]) C w (mY_nextFrom l D d g vl bs n k (xs (i + 1)) hn hk) [0, 1, 2] [3, 4, 5, 6, 7, 8, 9] rfl rfl rfl rfl (by decide) rfl rfl (cwV 1 C.1.2.2.2.2 (lw_V q246 q247 q248 q14 q249) rfl rfl rfl (by decide +kernel) ⟨Nat.le_of_ble_eq_true rfl, Nat.le_of_ble_eq_true rfl⟩) rfl hl.1 rfl (Nat.le_of_ble_eq_true rfl) dL_law_448 ⟨Nat.le_of_ble_eq_true rfl, Nat.le_of_ble_eq_true rfl⟩ (fun r_2 u_2 H locs hp_2 w => ?_)
    obtain ⟨vl1, bs1, n2, k2⟩ := u_2
    have hE : om_E r_1 r_2 tx1 pt1 vl1 n1 n2 k1 k2 := tie_read hR hp_1 hp_2 (fun f g => tie_nextFrom hR hn hk f g)
    obtain ⟨er, en, ek, hR1⟩ := hE
    have w : om_H D A s (om_X h d tx1 mt1 pt1 bl1 ab1 fl1 (nI n1) (nI k1) (nI z1) cd1 ++ om_Y g d vl1 bs1 (nI n2) (nI k2)) H locs := w
    rw [en, ek] at w
    refine lv_icmp_eq (tgt := 551) hx hb dL_law_451 (by decide) (fun c_1 => ?_) (fun c_1 => absurd er c_1)
    exact back (tx1, mt1, pt1, bl1, ab1, fl1, n1, k1, z1, cd1) (vl1, bs1) _ _ _ ⟨⟨hI1, hR1⟩, w, hl⟩
  · refine lv_tableIn (off := 424) (tgt := 456) hx hb dL_law_32 (by decide) (by decide) (by decide) (by decide) ?_
    refine lv_aload_n hx hb dL_law_456 rfl (lv_at hl 1 rfl) ?_
    refine lv_aload_n hx hb dL_law_457 rfl (lv_at hl 0 rfl) ?_
    refine lv_iload_n hx hb dL_law_458 rfl (lv_at hl 3 rfl) ?_
    refine lv_iconst (v := nI 1) hx hb dL_law_459 (by decide) ?_
    refine om_iadd hx hb dL_law_460 ?_
    refine om_sld (i := i + 1) hx hb hX hbl hbA w (by omega) hL dL_law_461 ?_
    refine om_calli (Wr := om_Y g d vl bs (nI n) (nI k)) (As := [.int (xs (i + 1))]) (rest := []) C w (mX_matchedAt l D d h tx mt pt bl ab fl n k z cd (xs (i + 1)) hI) [0, 1, 2, 3, 4, 5, 6] [7, 8, 9] rfl rfl rfl rfl (by decide) rfl rfl (cwV 1 C.1.2.2.2.2 (lw_V q143 q144 q145 q13 q146) rfl rfl rfl (by decide +kernel) ⟨Nat.le_of_ble_eq_true rfl, Nat.le_of_ble_eq_true rfl⟩) rfl hl.1 rfl (Nat.le_of_ble_eq_true rfl) dL_law_462 ⟨Nat.le_of_ble_eq_true rfl, Nat.le_of_ble_eq_true rfl⟩ (fun r_1 u_1 H locs hp_1 w => ?_)
    obtain ⟨tx1, mt1, pt1, bl1, ab1, fl1, n1, k1, z1, cd1⟩ := u_1
    obtain ⟨hI1, hp_1⟩ := hp_1
    have hI1 : om_I tx1 mt1 pt1 bl1 ab1 fl1 n1 k1 z1 cd1 := hI1
    have w : om_H D A s (om_Y g d vl bs (nI n) (nI k) ++ om_X h d tx1 mt1 pt1 bl1 ab1 fl1 (nI n1) (nI k1) (nI z1) cd1) H locs := w
    refine lv_aload_n hx hb dL_law_465 rfl (lv_at hl 2 rfl) ?_
    refine lv_aload_n hx hb dL_law_466 rfl (lv_at hl 0 rfl) ?_
    refine lv_iload_n hx hb dL_law_467 rfl (lv_at hl 3 rfl) ?_
    refine lv_iconst (v := nI 1) hx hb dL_law_468 (by decide) ?_
    refine om_iadd hx hb dL_law_469 ?_
    refine om_sld (i := i + 1) hx hb hX hbl hbA w (by omega) hL dL_law_470 ?_
    refine om_calli (Wr := om_X h d tx1 mt1 pt1 bl1 ab1 fl1 (nI n1) (nI k1) (nI z1) cd1) (As := [.int (xs (i + 1))]) (rest := [.int r_1]) C w (mY_matchedAt l D d g vl bs n k (xs (i + 1)) hn hk) [0, 1, 2] [3, 4, 5, 6, 7, 8, 9] rfl rfl rfl rfl (by decide) rfl rfl (cwV 1 C.1.2.2.2.2 (lw_V q250 q251 q252 q14 q253) rfl rfl rfl (by decide +kernel) ⟨Nat.le_of_ble_eq_true rfl, Nat.le_of_ble_eq_true rfl⟩) rfl hl.1 rfl (Nat.le_of_ble_eq_true rfl) dL_law_471 ⟨Nat.le_of_ble_eq_true rfl, Nat.le_of_ble_eq_true rfl⟩ (fun r_2 u_2 H locs hp_2 w => ?_)
    obtain ⟨vl1, bs1, n2, k2⟩ := u_2
    have hE : om_E r_1 r_2 tx1 pt1 vl1 n1 n2 k1 k2 := tie_read hR hp_1 hp_2 (fun f g => tie_matchedAt hR hn hk f g)
    obtain ⟨er, en, ek, hR1⟩ := hE
    have w : om_H D A s (om_X h d tx1 mt1 pt1 bl1 ab1 fl1 (nI n1) (nI k1) (nI z1) cd1 ++ om_Y g d vl1 bs1 (nI n2) (nI k2)) H locs := w
    rw [en, ek] at w
    refine lv_icmp_eq (tgt := 551) hx hb dL_law_474 (by decide) (fun c_1 => ?_) (fun c_1 => absurd er c_1)
    exact back (tx1, mt1, pt1, bl1, ab1, fl1, n1, k1, z1, cd1) (vl1, bs1) _ _ _ ⟨⟨hI1, hR1⟩, w, hl⟩
  · refine lv_tableIn (off := 447) (tgt := 479) hx hb dL_law_32 (by decide) (by decide) (by decide) (by decide) ?_
    refine lv_aload_n hx hb dL_law_479 rfl (lv_at hl 1 rfl) ?_
    refine lv_aload_n hx hb dL_law_480 rfl (lv_at hl 0 rfl) ?_
    refine lv_iload_n hx hb dL_law_481 rfl (lv_at hl 3 rfl) ?_
    refine lv_iconst (v := nI 1) hx hb dL_law_482 (by decide) ?_
    refine om_iadd hx hb dL_law_483 ?_
    refine om_sld (i := i + 1) hx hb hX hbl hbA w (by omega) hL dL_law_484 ?_
    refine om_calli (Wr := om_Y g d vl bs (nI n) (nI k)) (As := [.int (xs (i + 1))]) (rest := []) C w (mX_border l D d h tx mt pt bl ab fl n k z cd (xs (i + 1)) hI) [0, 1, 2, 3, 4, 5, 6] [7, 8, 9] rfl rfl rfl rfl (by decide) rfl rfl (cwV 1 C.1.2.2.2.2 (lw_V q147 q148 q149 q13 q150) rfl rfl rfl (by decide +kernel) ⟨Nat.le_of_ble_eq_true rfl, Nat.le_of_ble_eq_true rfl⟩) rfl hl.1 rfl (Nat.le_of_ble_eq_true rfl) dL_law_485 ⟨Nat.le_of_ble_eq_true rfl, Nat.le_of_ble_eq_true rfl⟩ (fun r_1 u_1 H locs hp_1 w => ?_)
    obtain ⟨tx1, mt1, pt1, bl1, ab1, fl1, n1, k1, z1, cd1⟩ := u_1
    obtain ⟨hI1, hp_1⟩ := hp_1
    have hI1 : om_I tx1 mt1 pt1 bl1 ab1 fl1 n1 k1 z1 cd1 := hI1
    have w : om_H D A s (om_Y g d vl bs (nI n) (nI k) ++ om_X h d tx1 mt1 pt1 bl1 ab1 fl1 (nI n1) (nI k1) (nI z1) cd1) H locs := w
    refine lv_aload_n hx hb dL_law_488 rfl (lv_at hl 2 rfl) ?_
    refine lv_aload_n hx hb dL_law_489 rfl (lv_at hl 0 rfl) ?_
    refine lv_iload_n hx hb dL_law_490 rfl (lv_at hl 3 rfl) ?_
    refine lv_iconst (v := nI 1) hx hb dL_law_491 (by decide) ?_
    refine om_iadd hx hb dL_law_492 ?_
    refine om_sld (i := i + 1) hx hb hX hbl hbA w (by omega) hL dL_law_493 ?_
    refine om_calli (Wr := om_X h d tx1 mt1 pt1 bl1 ab1 fl1 (nI n1) (nI k1) (nI z1) cd1) (As := [.int (xs (i + 1))]) (rest := [.int r_1]) C w (mY_border l D d g vl bs n k (xs (i + 1)) hn hk) [0, 1, 2] [3, 4, 5, 6, 7, 8, 9] rfl rfl rfl rfl (by decide) rfl rfl (cwV 1 C.1.2.2.2.2 (lw_V q254 q255 q256 q14 q257) rfl rfl rfl (by decide +kernel) ⟨Nat.le_of_ble_eq_true rfl, Nat.le_of_ble_eq_true rfl⟩) rfl hl.1 rfl (Nat.le_of_ble_eq_true rfl) dL_law_494 ⟨Nat.le_of_ble_eq_true rfl, Nat.le_of_ble_eq_true rfl⟩ (fun r_2 u_2 H locs hp_2 w => ?_)
    obtain ⟨vl1, bs1, n2, k2⟩ := u_2
    have hE : om_E r_1 r_2 tx1 pt1 vl1 n1 n2 k1 k2 := tie_read hR hp_1 hp_2 (fun f g => tie_border hR hk f g)
    obtain ⟨er, en, ek, hR1⟩ := hE
    have w : om_H D A s (om_X h d tx1 mt1 pt1 bl1 ab1 fl1 (nI n1) (nI k1) (nI z1) cd1 ++ om_Y g d vl1 bs1 (nI n2) (nI k2)) H locs := w
    rw [en, ek] at w
    refine lv_icmp_eq (tgt := 551) hx hb dL_law_497 (by decide) (fun c_1 => ?_) (fun c_1 => absurd er c_1)
    exact back (tx1, mt1, pt1, bl1, ab1, fl1, n1, k1, z1, cd1) (vl1, bs1) _ _ _ ⟨⟨hI1, hR1⟩, w, hl⟩
  · refine lv_tableIn (off := 470) (tgt := 502) hx hb dL_law_32 (by decide) (by decide) (by decide) (by decide) ?_
    refine lv_aload_n hx hb dL_law_502 rfl (lv_at hl 1 rfl) ?_
    refine om_calli (Wr := om_Y g d vl bs (nI n) (nI k)) (As := []) (rest := []) C w (mX_period l D d h tx mt pt bl ab fl n k z cd  hI) [0, 1, 2, 3, 4, 5, 6] [7, 8, 9] rfl rfl rfl rfl (by decide) rfl rfl (cwV 0 C.1.2.2.2.2 (lw_V q151 q152 q153 q13 q154) rfl rfl rfl (by decide +kernel) ⟨Nat.le_of_ble_eq_true rfl, Nat.le_of_ble_eq_true rfl⟩) rfl hl.1 rfl (Nat.le_of_ble_eq_true rfl) dL_law_503 ⟨Nat.le_of_ble_eq_true rfl, Nat.le_of_ble_eq_true rfl⟩ (fun r_1 u_1 H locs hp_1 w => ?_)
    obtain ⟨tx1, mt1, pt1, bl1, ab1, fl1, n1, k1, z1, cd1⟩ := u_1
    obtain ⟨hI1, hp_1⟩ := hp_1
    have hI1 : om_I tx1 mt1 pt1 bl1 ab1 fl1 n1 k1 z1 cd1 := hI1
    have w : om_H D A s (om_Y g d vl bs (nI n) (nI k) ++ om_X h d tx1 mt1 pt1 bl1 ab1 fl1 (nI n1) (nI k1) (nI z1) cd1) H locs := w
    refine lv_aload_n hx hb dL_law_506 rfl (lv_at hl 2 rfl) ?_
    refine om_calli (Wr := om_X h d tx1 mt1 pt1 bl1 ab1 fl1 (nI n1) (nI k1) (nI z1) cd1) (As := []) (rest := [.int r_1]) C w (mY_period l D d g vl bs n k  hn hk) [0, 1, 2] [3, 4, 5, 6, 7, 8, 9] rfl rfl rfl rfl (by decide) rfl rfl (cwV 0 C.1.2.2.2.2 (lw_V q262 q263 q264 q14 q265) rfl rfl rfl (by decide +kernel) ⟨Nat.le_of_ble_eq_true rfl, Nat.le_of_ble_eq_true rfl⟩) rfl hl.1 rfl (Nat.le_of_ble_eq_true rfl) dL_law_507 ⟨Nat.le_of_ble_eq_true rfl, Nat.le_of_ble_eq_true rfl⟩ (fun r_2 u_2 H locs hp_2 w => ?_)
    obtain ⟨vl1, bs1, n2, k2⟩ := u_2
    have hE : om_E r_1 r_2 tx1 pt1 vl1 n1 n2 k1 k2 := tie_read hR hp_1 hp_2 (fun f g => tie_period hR hk f g)
    obtain ⟨er, en, ek, hR1⟩ := hE
    have w : om_H D A s (om_X h d tx1 mt1 pt1 bl1 ab1 fl1 (nI n1) (nI k1) (nI z1) cd1 ++ om_Y g d vl1 bs1 (nI n2) (nI k2)) H locs := w
    rw [en, ek] at w
    refine lv_icmp_eq (tgt := 551) hx hb dL_law_510 (by decide) (fun c_1 => ?_) (fun c_1 => absurd er c_1)
    exact back (tx1, mt1, pt1, bl1, ab1, fl1, n1, k1, z1, cd1) (vl1, bs1) _ _ _ ⟨⟨hI1, hR1⟩, w, hl⟩
  · refine lv_tableIn (off := 483) (tgt := 515) hx hb dL_law_32 (by decide) (by decide) (by decide) (by decide) ?_
    refine lv_aload_n hx hb dL_law_515 rfl (lv_at hl 1 rfl) ?_
    refine lv_aload_n hx hb dL_law_516 rfl (lv_at hl 0 rfl) ?_
    refine lv_iload_n hx hb dL_law_517 rfl (lv_at hl 3 rfl) ?_
    refine lv_iconst (v := nI 1) hx hb dL_law_518 (by decide) ?_
    refine om_iadd hx hb dL_law_519 ?_
    refine om_sld (i := i + 1) hx hb hX hbl hbA w (by omega) hL dL_law_520 ?_
    refine om_calli (Wr := om_Y g d vl bs (nI n) (nI k)) (As := [.int (xs (i + 1))]) (rest := []) C w (mX_rank l D d h tx mt pt bl ab fl n k z cd (xs (i + 1)) hI) [0, 1, 2, 3, 4, 5, 6] [7, 8, 9] rfl rfl rfl rfl (by decide) rfl rfl (cwV 1 C.1.2.2.2.2 (lw_V q155 q156 q157 q13 q158) rfl rfl rfl (by decide +kernel) ⟨Nat.le_of_ble_eq_true rfl, Nat.le_of_ble_eq_true rfl⟩) rfl hl.1 rfl (Nat.le_of_ble_eq_true rfl) dL_law_521 ⟨Nat.le_of_ble_eq_true rfl, Nat.le_of_ble_eq_true rfl⟩ (fun r_1 u_1 H locs hp_1 w => ?_)
    obtain ⟨tx1, mt1, pt1, bl1, ab1, fl1, n1, k1, z1, cd1⟩ := u_1
    obtain ⟨hI1, hp_1⟩ := hp_1
    have hI1 : om_I tx1 mt1 pt1 bl1 ab1 fl1 n1 k1 z1 cd1 := hI1
    have w : om_H D A s (om_Y g d vl bs (nI n) (nI k) ++ om_X h d tx1 mt1 pt1 bl1 ab1 fl1 (nI n1) (nI k1) (nI z1) cd1) H locs := w
    refine lv_aload_n hx hb dL_law_524 rfl (lv_at hl 2 rfl) ?_
    refine lv_aload_n hx hb dL_law_525 rfl (lv_at hl 0 rfl) ?_
    refine lv_iload_n hx hb dL_law_526 rfl (lv_at hl 3 rfl) ?_
    refine lv_iconst (v := nI 1) hx hb dL_law_527 (by decide) ?_
    refine om_iadd hx hb dL_law_528 ?_
    refine om_sld (i := i + 1) hx hb hX hbl hbA w (by omega) hL dL_law_529 ?_
    refine om_calli (Wr := om_X h d tx1 mt1 pt1 bl1 ab1 fl1 (nI n1) (nI k1) (nI z1) cd1) (As := [.int (xs (i + 1))]) (rest := [.int r_1]) C w (mY_rank l D d g vl bs n k (xs (i + 1)) hn hk) [0, 1, 2] [3, 4, 5, 6, 7, 8, 9] rfl rfl rfl rfl (by decide) rfl rfl (cwV 1 C.1.2.2.2.2 (lw_V q266 q267 q268 q14 q269) rfl rfl rfl (by decide +kernel) ⟨Nat.le_of_ble_eq_true rfl, Nat.le_of_ble_eq_true rfl⟩) rfl hl.1 rfl (Nat.le_of_ble_eq_true rfl) dL_law_530 ⟨Nat.le_of_ble_eq_true rfl, Nat.le_of_ble_eq_true rfl⟩ (fun r_2 u_2 H locs hp_2 w => ?_)
    obtain ⟨vl1, bs1, n2, k2⟩ := u_2
    have hE : om_E r_1 r_2 tx1 pt1 vl1 n1 n2 k1 k2 := tie_read hR hp_1 hp_2 (fun f g => tie_rank hR hk f g)
    obtain ⟨er, en, ek, hR1⟩ := hE
    have w : om_H D A s (om_X h d tx1 mt1 pt1 bl1 ab1 fl1 (nI n1) (nI k1) (nI z1) cd1 ++ om_Y g d vl1 bs1 (nI n2) (nI k2)) H locs := w
    rw [en, ek] at w
    refine lv_icmp_eq (tgt := 551) hx hb dL_law_533 (by decide) (fun c_1 => ?_) (fun c_1 => absurd er c_1)
    exact back (tx1, mt1, pt1, bl1, ab1, fl1, n1, k1, z1, cd1) (vl1, bs1) _ _ _ ⟨⟨hI1, hR1⟩, w, hl⟩
  · refine lv_tableIn (off := 506) (tgt := 538) hx hb dL_law_32 (by decide) (by decide) (by decide) (by decide) ?_
    refine lv_aload_n hx hb dL_law_538 rfl (lv_at hl 1 rfl) ?_
    refine om_calli (Wr := om_Y g d vl bs (nI n) (nI k)) (As := []) (rest := []) C w (mX_disjoint l D d h tx mt pt bl ab fl n k z cd  hI) [0, 1, 2, 3, 4, 5, 6] [7, 8, 9] rfl rfl rfl rfl (by decide) rfl rfl (cwV 0 C.1.2.2.2.2 (lw_V q159 q160 q161 q13 q162) rfl rfl rfl (by decide +kernel) ⟨Nat.le_of_ble_eq_true rfl, Nat.le_of_ble_eq_true rfl⟩) rfl hl.1 rfl (Nat.le_of_ble_eq_true rfl) dL_law_539 ⟨Nat.le_of_ble_eq_true rfl, Nat.le_of_ble_eq_true rfl⟩ (fun r_1 u_1 H locs hp_1 w => ?_)
    obtain ⟨tx1, mt1, pt1, bl1, ab1, fl1, n1, k1, z1, cd1⟩ := u_1
    obtain ⟨hI1, hp_1⟩ := hp_1
    have hI1 : om_I tx1 mt1 pt1 bl1 ab1 fl1 n1 k1 z1 cd1 := hI1
    have w : om_H D A s (om_Y g d vl bs (nI n) (nI k) ++ om_X h d tx1 mt1 pt1 bl1 ab1 fl1 (nI n1) (nI k1) (nI z1) cd1) H locs := w
    refine lv_aload_n hx hb dL_law_542 rfl (lv_at hl 2 rfl) ?_
    refine om_calli (Wr := om_X h d tx1 mt1 pt1 bl1 ab1 fl1 (nI n1) (nI k1) (nI z1) cd1) (As := []) (rest := [.int r_1]) C w (mY_disjoint l D d g vl bs n k  hn hk) [0, 1, 2] [3, 4, 5, 6, 7, 8, 9] rfl rfl rfl rfl (by decide) rfl rfl (cwV 0 C.1.2.2.2.2 (lw_V q270 q271 q272 q14 q273) rfl rfl rfl (by decide +kernel) ⟨Nat.le_of_ble_eq_true rfl, Nat.le_of_ble_eq_true rfl⟩) rfl hl.1 rfl (Nat.le_of_ble_eq_true rfl) dL_law_543 ⟨Nat.le_of_ble_eq_true rfl, Nat.le_of_ble_eq_true rfl⟩ (fun r_2 u_2 H locs hp_2 w => ?_)
    obtain ⟨vl1, bs1, n2, k2⟩ := u_2
    have hE : om_E r_1 r_2 tx1 pt1 vl1 n1 n2 k1 k2 := tie_read hR hp_1 hp_2 (fun f g => tie_disjoint hR hn hk f g)
    obtain ⟨er, en, ek, hR1⟩ := hE
    have w : om_H D A s (om_X h d tx1 mt1 pt1 bl1 ab1 fl1 (nI n1) (nI k1) (nI z1) cd1 ++ om_Y g d vl1 bs1 (nI n2) (nI k2)) H locs := w
    rw [en, ek] at w
    refine lv_icmp_eq (tgt := 551) hx hb dL_law_546 (by decide) (fun c_1 => ?_) (fun c_1 => absurd er c_1)
    exact back (tx1, mt1, pt1, bl1, ab1, fl1, n1, k1, z1, cd1) (vl1, bs1) _ _ _ ⟨⟨hI1, hR1⟩, w, hl⟩
  · refine lv_tableOut (tgt := 551) hx hb dL_law_32 (Or.inr (by rw [nI_toInt (by omega)]; omega)) (by decide) ?_
    exact back (tx, mt, pt, bl, ab, fl, n, k, z, cd) (vl, bs) _ _ _ ⟨⟨hI, hR⟩, w, hl⟩
end
section
theorem om_fs0 : ∀ j, j < 10 → defaultValue (tyX0 j) = vp_V [.null, .null, .null, .null, .null, .null, .int (nI 0), .int (nI 0), .int (nI 0), .int (nI 0)] j := by
  intro j hj
  rcases (show j = 0 ∨ j = 1 ∨ j = 2 ∨ j = 3 ∨ j = 4 ∨ j = 5 ∨ j = 6 ∨ j = 7 ∨ j = 8 ∨ j = 9 by omega) with rfl | rfl | rfl | rfl | rfl | rfl | rfl | rfl | rfl | rfl <;> rfl
theorem om_fs1 : ∀ j, j < 4 → defaultValue (tyX1 j) = vp_V [.null, .int (nI 0), .int (nI 0), .null] j := by
  intro j hj
  rcases (show j = 0 ∨ j = 1 ∨ j = 2 ∨ j = 3 by omega) with rfl | rfl | rfl | rfl <;> rfl
set_option maxHeartbeats 4000000 in
set_option maxRecDepth 100000 in
/-- from the entry, for every script of at most 256 ints, the law comes to its end with true -/
theorem whole_start {p : Program} {e : Env} {s : State} {m : MethodId} {below : List Frame} {meth : Method} {c : Code} (l : Launch) {b L : Nat} {xs : Nat → Int32} (hL : L ≤ 256) (C0 : lw_At p s m meth c b L xs) : W p l e room_1 s m #[Value.ref b] below meth c s.heap [] 0 0 (lw_Z below #[Value.ref b] s) (entryFrame m ([Value.ref b] : List Value).toArray 4) := by
  obtain ⟨hx, hb, hr, hml, hown, hts0, hX, hbl, hlocks, hgv⟩ := id C0
  have hts : ∀ w ∈ lw_all, w.before #[Value.ref b] s = true := fun w h => hts0 w (lw_all_tbl h)
  obtain ⟨c0_, iS0, hKn0⟩ := u_known (C := RX0) (T := TX0) (N := 10) (n := 10) hts in_X0 (hts _ q16)
  obtain ⟨c1_, iS1, hKn1⟩ := u_known (C := RX1) (T := TX1) (N := 4) (n := 4) hts in_X1 (hts _ q164)
  obtain ⟨D, hKc⟩ : ∃ D : va_G, ∀ (k : Nat) (q : vw_C), vwCl[k]? = some q → u_Kn s q.1 q.2.1 q.2.2 (D.1 k) (D.2 k) := by
    refine ⟨(fun k => if k = 0 then c0_ else c1_, fun k => if k = 0 then iS0 else iS1), ?_⟩
    intro k q hq
    match k, hq with
    | 0, hq => cases hq; exact hKn0
    | 1, hq => cases hq; exact hKn1
    | k + 2, hq => simp [vwCl] at hq
  have hK : va_K D vwCl [] s := ⟨hKc, fun k q hk => by simp at hk⟩
  have hP : va_P D vwCl [] s.heap := fun k q hk => by simp at hk
  have hA : ∀ q : Nat, s.heap.size ≤ q → (fun q : Nat => s.heap.size ≤ q) q := fun _ h => h
  have hD : va_D (fun q : Nat => s.heap.size ≤ q) [] := ⟨fun i j p q hi => by simp at hi, fun k q hk => by simp at hk⟩
  have hS : va_S (fun q : Nat => s.heap.size ≤ q) s.heap s.heap [] := va_S.rf
  have hl := lv_entry ([.ref b]) (n := 4) (Nat.le_of_ble_eq_true rfl)
  rw [lg_entry_eq]
  generalize (lg_sl ([.ref b]) ++ List.replicate (4 - (lg_sl ([.ref b])).length) Slot.unset).toArray = ls at hl ⊢
  have hl : lv_has ls 4 [(0, .ref b)] := hl
  refine va_new (ci := 0) (fs := [.null, .null, .null, .null, .null, .null, .int (nI 0), .int (nI 0), .int (nI 0), .int (nI 0)]) (C := RX0) (T := TX0) (N := 10) hx hb hts in_X0 tyX0 tyX0_ok hown (hts _ q15) (hts _ q16) (hts _ q13) hK hP hD hS hA rfl om_fs0 (Nat.le_of_ble_eq_true rfl) (Nat.le_of_ble_eq_true rfl) dL_law_0 (fun q0 H hP hD hS => ?_)
  have hP : va_P D vwCl [(q0, .inr (0, [.null, .null, .null, .null, .null, .null, .int (nI 0), .int (nI 0), .int (nI 0), .int (nI 0)]))] H := hP
  have hD : va_D (fun q : Nat => s.heap.size ≤ q) [(q0, .inr (0, [.null, .null, .null, .null, .null, .null, .int (nI 0), .int (nI 0), .int (nI 0), .int (nI 0)]))] := hD
  refine W.widen (k := 1) (n := 10) (Nat.le_of_ble_eq_true rfl) (Nat.le_of_ble_eq_true rfl) ?_
  refine lv_dup hx hb dL_law_3 rfl ?_
  have hFc := va_free (wc := [(q0, .inr (0, [.null, .null, .null, .null, .null, .null, .int (nI 0), .int (nI 0), .int (nI 0), .int (nI 0)]))]) hD hS hA [0] rfl
  refine va_callv (va_runI (As := []) (rest := [.ref q0]) ⟨hx, hb, hml, hown, hts⟩ (mX0_init l D q0 H.size) (cwI 0 hts (lw_meth q19) rfl rfl rfl (hts _ q13) (hts _ q17) (hts _ q18) rfl (by decide +kernel) ⟨Nat.le_of_ble_eq_true rfl, Nat.le_of_ble_eq_true rfl⟩) ⟨fun a U g mk q => by obtain ⟨q0, q1, qP, qK, qD⟩ := q; exact ⟨q0, q1, qP, va_K.moved (u := U) (U := U.calling g mk a) (Vm.Alike.refl U.vm) qK, qD⟩, fun U hU hW => ⟨rfl, by rw [hU], by rw [hU]; exact hP, va_K.moved hW.alike hK, hD.weaken (fun _ _ _ _ => trivial)⟩⟩ rfl rfl hl.1 rfl (lv_room (Nat.le_of_ble_eq_true rfl)) dL_law_4 ⟨Nat.le_of_ble_eq_true rfl, Nat.le_of_ble_eq_true rfl⟩) hS (fun q _ h => hFc q h) hFc (fun u t H1 locs ht hvm hw1 hB hz1 hk1 hS => ?_)
  obtain ⟨h, d⟩ := u
  have hw1 : h 0 = q0 := hw1
  subst hw1
  obtain ⟨hP1, hK1, hD1⟩ := hB
  rw [ht] at hP1
  have hK : va_K D vwCl [(d, .int)] s := va_K.moved hvm.symm hK1
  obtain ⟨hP, hD⟩ := va_join (wr := []) (w1 := om_X h d (fun _ => nI 0) (fun _ => nI 0) (fun _ => nI 0) (fun _ => nI 0) (fun _ => nI 0) (fun _ => nI 0) (nI 0) (nI 0) (nI 0) (nI 0)) hP hD [0] [] rfl rfl (by decide) (by decide) hk1 hFc hP1 hD1
  generalize H1 = H at hP hS ⊢
  have hP : va_P D vwCl (om_X h d (fun _ => nI 0) (fun _ => nI 0) (fun _ => nI 0) (fun _ => nI 0) (fun _ => nI 0) (fun _ => nI 0) (nI 0) (nI 0) (nI 0) (nI 0)) H := hP
  have hD : va_D (fun q : Nat => s.heap.size ≤ q) (om_X h d (fun _ => nI 0) (fun _ => nI 0) (fun _ => nI 0) (fun _ => nI 0) (fun _ => nI 0) (fun _ => nI 0) (nI 0) (nI 0) (nI 0) (nI 0)) := hD
  refine lv_astore_n (lv' := [(1, .ref (h 0)), (0, .ref b)]) hx hb dL_law_7 rfl hl (by decide) rfl (fun ls hl => ?_)
  refine va_new (ci := 1) (fs := [.null, .int (nI 0), .int (nI 0), .null]) (C := RX1) (T := TX1) (N := 4) hx hb hts in_X1 tyX1 tyX1_ok hown (hts _ q163) (hts _ q164) (hts _ q14) hK hP hD hS hA rfl om_fs1 (Nat.le_of_ble_eq_true rfl) (Nat.le_of_ble_eq_true rfl) dL_law_8 (fun q1 H hP hD hS => ?_)
  have hPc := hP.sub (ws' := [(q1, .inr (1, [.null, .int (nI 0), .int (nI 0), .null]))]) [7] rfl
  have hDc := hD.sub (ws' := [(q1, .inr (1, [.null, .int (nI 0), .int (nI 0), .null]))]) [7] (by decide) rfl
  have hKe := hK.sub (tys' := []) [] rfl
  have hFc := va_free (wc := [(q1, .inr (1, [.null, .int (nI 0), .int (nI 0), .null]))]) hD hS hA [7] rfl
  refine W.widen (k := 8) (n := 175) (Nat.le_of_ble_eq_true rfl) (Nat.le_of_ble_eq_true rfl) ?_
  refine lv_dup hx hb dL_law_11 rfl ?_
  refine va_callv (va_runI (As := []) (rest := [.ref q1]) ⟨hx, hb, hml, hown, hts⟩ (mX1_init l D q1 H.size) (cwI 0 hts (lw_meth q167) rfl rfl rfl (hts _ q14) (hts _ q165) (hts _ q166) rfl (by decide +kernel) ⟨Nat.le_of_ble_eq_true rfl, Nat.le_of_ble_eq_true rfl⟩) ⟨fun a U g mk q => by obtain ⟨q0, q1, qP, qK, qD⟩ := q; exact ⟨q0, q1, qP, va_K.moved (u := U) (U := U.calling g mk a) (Vm.Alike.refl U.vm) qK, qD⟩, fun U hU hW => ⟨rfl, by rw [hU], by rw [hU]; exact hPc, va_K.moved hW.alike hKe, hDc.weaken (fun _ _ _ _ => trivial)⟩⟩ rfl rfl hl.1 rfl (lv_room (Nat.le_of_ble_eq_true rfl)) dL_law_12 ⟨Nat.le_of_ble_eq_true rfl, Nat.le_of_ble_eq_true rfl⟩) hS (fun q _ h => hFc q h) hFc (fun u t H1 locs ht hvm hw1 hB hz1 hk1 hS => ?_)
  obtain ⟨g, d2⟩ := u
  have hw1 : g 0 = q1 := hw1
  subst hw1
  obtain ⟨hP1, hK1, hD1⟩ := hB
  rw [ht] at hP1
  have hK1 : va_K D vwCl [(d2, .int)] s := va_K.moved hvm.symm hK1
  have ed : d2 = d := by
    have h1 : s.vm.findClass ("[" ++ FieldType.int.toString) = some d := (hK.2 0 _ rfl).2
    have h2 : s.vm.findClass ("[" ++ FieldType.int.toString) = some d2 := (hK1.2 0 _ rfl).2
    exact Option.some.inj (h2.symm.trans h1)
  have hP1 : va_P D vwCl (om_Y g d2 (fun _ => nI 0) (fun _ => nI 0) (nI 0) (nI 0)) H1 := hP1
  have hD1 : va_D _ (om_Y g d2 (fun _ => nI 0) (fun _ => nI 0) (nI 0) (nI 0)) := hD1
  rw [ed] at hP1 hD1
  obtain ⟨hP, hD⟩ := va_join (wr := om_X h d (fun _ => nI 0) (fun _ => nI 0) (fun _ => nI 0) (fun _ => nI 0) (fun _ => nI 0) (fun _ => nI 0) (nI 0) (nI 0) (nI 0) (nI 0)) (w1 := om_Y g d (fun _ => nI 0) (fun _ => nI 0) (nI 0) (nI 0)) hP hD [7] [0, 1, 2, 3, 4, 5, 6] rfl rfl (by decide) (by decide) hk1 hFc hP1 hD1
  generalize H1 = H at hP hS ⊢
  refine lv_astore_n (lv' := [(2, .ref (g 0)), (1, .ref (h 0)), (0, .ref b)]) hx hb dL_law_15 rfl hl (by decide) rfl (fun ls hl => ?_)
  refine lv_iconst (v := nI 0) hx hb dL_law_16 (by decide) ?_
  refine lv_istore_n (lv' := [(3, .int (nI 0)), (2, .ref (g 0)), (1, .ref (h 0)), (0, .ref b)]) hx hb dL_law_17 rfl hl (by decide) rfl (fun ls hl => ?_)
  refine W.widen (k := 10) (n := 306) (Nat.le_of_ble_eq_true rfl) (Nat.le_of_ble_eq_true rfl) ?_
  exact law_loop l hL C0 hK ⟨hP, hD, hS⟩ (lv_sub hl [3, 2, 1, 0] rfl)
end
section
set_option maxHeartbeats 4000000 in
theorem lw_walk (l : Launch) (b : Addr) (xs : List Int32) : MetFree l x (headSpec (Jvm.Cond.code x code maxLocals ret :: tables_1) room_1) (lw_P b xs) (fun _ _ _ _ _ => True) lw_Q := by
  refine MetFree.of_bodyS (code := code) (maxLocals := maxLocals) (ret := ret) (by decide) ?_ ?_
  · intro args s m h hn
    obtain ⟨meth, c, h1, h2, h3, h4, h5, h6, -, -⟩ := Cond.code_spec hn (atoms_spec (ws := Jvm.Cond.code x code maxLocals ret :: tables_1) h _ List.mem_cons_self)
    exact ⟨meth, c, h1, h2, h3, h4, h5, h6⟩
  · intro p e s m args below meth c s₁ B hml0 hP _
    obtain ⟨rfl, hx, hbd, hgv⟩ := hP
    obtain ⟨scr, harrAt, hlist, hof, hsmall⟩ := hx
    obtain ⟨hcb, hkn, -, -⟩ := State.arrayAt?_spec harrAt
    have hown : s.vm.findClass R_law = some m.cls := findClass_of_methodNamed B.named
    have hts0 : ∀ c ∈ (Jvm.Cond.code x code maxLocals ret :: tables_1), c.before #[Value.ref b] s = true := atoms_spec (ws := Jvm.Cond.code x code maxLocals ret :: tables_1) B.pre
    have hts : ∀ w ∈ lw_tbl, w.before #[Value.ref b] s = true := k2_hts_sels lw_privs (fun w hw => hts0 w (List.mem_cons_of_mem _ hw)) lw_privs_ok
    have hml : c.maxLocals = 4 := B.maxLocals_eq (hts0 _ List.mem_cons_self)
    have X₀ : Stand p l e room_1 s m #[Value.ref b] below meth c s₁ [] 0 0 := Stand.of_body B
    have hh0 : s₁.heap = s.heap := by rw [B.state]; rfl
    have hsz : scr.slots.size = xs.length := by rw [← Array.length_toList, hlist, List.length_map]
    have hval : ∀ j : Nat, j < xs.length → scr.slots[j]? = some (.int (xs.getD j 0)) := fun j hj => by
      rw [← Array.getElem?_toList, hlist]
      simp [hj]
    have hbl : b < s.heap.size := (Array.getElem?_eq_some_iff.mp hcb).1
    have hX : va_X b xs.length (fun j => xs.getD j 0) s s.heap := ⟨scr, hcb, hof, hkn, hsz, hval⟩
    have K : W p l e room_1 s m #[Value.ref b] below meth c s₁.heap [] 0 0 (lw_Z below #[Value.ref b] s) (entryFrame m ([Value.ref b] : List Value).toArray 4) := by
      rw [hh0]
      exact whole_start l hbd ⟨B.exec, B.bytes, B.returns, hml, hown, hts, hX, hbl, B.notSynchronized, hgv⟩
    obtain ⟨t, a1, o, b1, b2, b3⟩ := K s₁ rfl X₀
    exact ⟨t, o, a1, b1, b2, b3⟩
theorem lw_pre_spec {args : Array Value} {s : State} (h : (Jvm.Cond.and given_1 narrow_1).before args s = true) (hr : rest_1_c.before args s = true) : ∃ (b : Addr) (xs : List Int32), lw_P b xs args s := by
  have hs := flat_of_before _ h
  have hq := flat_of_before _ hr
  have hc : (Cond.count 1).before args s = true := hs _ (by decide +kernel)
  have harr : (Cond.arrayOf (.arg 0) .int).before args s = true := hs _ (by decide +kernel)
  have hle : (Cond.le (.length (.arg 0)) (.int 256)).before args s = true := hs _ (by decide +kernel)
  have hlen : (Cond.isInt (.length (.arg 0))).before args s = true := hq _ (by decide +kernel)
  have hall : (Cond.all (.arg 0) (.isInt (.elem (.arg 0) (.index 0)))).before args s = true := hq _ (by decide +kernel)
  obtain ⟨b, xs, hb, hx⟩ := State.ints_of_pre rfl harr hlen hall
  have hsm : xs.length < 2 ^ 31 := hx.choose_spec.2.2.2
  have hev : (Term.length (.arg 0)).eval args s none [] s = some (.int xs.length.toInt32) := hx.length_eval hb
  have hv := Cond.le_ints hev (show (Term.int 256).eval args s none [] s = some (.int 256) from rfl)
  have hd : xs.length.toInt32 ≤ 256 := by
    simpa [Cond.before, Cond.holds, hv] using hle
  have hN : xs.length ≤ 256 := (Int32.ofNat_le_ofNat hsm (by decide)).mp (show Int32.ofNat xs.length ≤ Int32.ofNat 256 from hd)
  exact ⟨b, xs, Cond.one_arg hc (show args[0]? = some (.ref b) from hb), hx, hN, h⟩
theorem lw_comes (l : Launch) : Comes l x (Jvm.Cond.code x code maxLocals ret :: tables_1) room_1 (fun tb e args s => Calls_1 tb e args s ∧ rest_1 tb e args s ∧ Pre_1 tb e args s)
    (fun _ _ args s o t => lw_Q args s o t) := by
  intro p e ha hc hk s m args below hf hfit hheap happ hpre
  obtain ⟨b, xs, hP⟩ := lw_pre_spec hpre.2.2 hpre.2.1
  obtain ⟨k, o, h1, h2, h3, hQ⟩ := lw_walk l b xs p e ha hc hk s m args below hf ((Spec.applies_iff_loose hf).mp happ).1 hP trivial
  exact ⟨k, o, h1, h2, h3, hQ⟩
theorem lw_frame {s t : State} {o : Outcome} {args : Array Value} (h : Framed s o t [] 600000 7290000) :
    Framed s o t (fieldLocs frame_1_writes args s ++ arrayLocs frame_1_arrays args s ++ staticLocs frame_1_statics s) 600000 7290000 := h
theorem lw_limb (L : Cond) (hL : ∀ (args : Array Value) (s t : State), L.after args s (.returned (some (.int 1))) t = true) :
    ArmFor flags0 classFile x code maxLocals ret World_1 tables_1 room_1 Calls_1 rest_1 Pre_1
      (fun tb e a s o t => postC L tb e a s o t ∧ Framed s o t (fieldLocs frame_1_writes a s ++ arrayLocs frame_1_arrays a s ++ staticLocs frame_1_statics s) 600000 7290000) := by
  intro l _ _ _ p e ha hc hk s m args below hf hfit hheap happ hpre
  obtain ⟨k, o, h1, h2, h3, rfl, hF⟩ := lw_comes l p e ha hc hk s m args below hf hfit hheap happ hpre
  exact ⟨k, _, h1, h2, h3, hL args s _, lw_frame hF⟩
theorem i_vc : Claimed_1_1 ∧ Claimed_1_2 := ⟨lw_limb limb_1_1 (fun args s t => by simp [limb_1_1, Cond.after, Cond.holds, Cond.value]), lw_limb limb_1_2 (fun args s t => Cond.after_iff.mpr (by
  first | (rw [show limb_1_2 = Cond.eq .result (.int 1) from rfl, Cond.eq_ints (x := 1) (y := 1) rfl rfl]; simp; done) | (simp [limb_1_2, Cond.value, Term.eval]; done)))⟩
end
