section
-- ===== PART A: goes FIRST, ahead of the names: the tables' words, and 'selects' of the private methods out of them =====
/-- a private method of a class that the tables say can be made, by its rows of tables_1 -/
def lw_okq (q : MethodName × Nat) : Prop := (q.1.cls ≠ "java/lang/invoke/MethodHandle" ∧ q.1.cls ≠ "java/lang/invoke/VarHandle") ∧ Cond.instantiable q.1.cls q.2 ∈ tables_1 ∧ Cond.privateMethod q.1 ∈ tables_1 ∧ Cond.instanceMethod q.1 ∈ tables_1
set_option maxRecDepth 100000
theorem lw_p0 : lw_okq (⟨"StateDesk", "state", "(I)I"⟩, 17) := ⟨⟨by decide +kernel, by decide +kernel⟩, List.mem_of_getElem? (i := 7) rfl, List.mem_of_getElem? (i := 81) rfl, List.mem_of_getElem? (i := 82) rfl⟩
theorem lw_p1 : lw_okq (⟨"StateDesk", "kindOf", "(I)I"⟩, 17) := ⟨⟨by decide +kernel, by decide +kernel⟩, List.mem_of_getElem? (i := 7) rfl, List.mem_of_getElem? (i := 90) rfl, List.mem_of_getElem? (i := 91) rfl⟩
theorem lw_p2 : lw_okq (⟨"StateDesk", "reckon", "()V"⟩, 17) := ⟨⟨by decide +kernel, by decide +kernel⟩, List.mem_of_getElem? (i := 7) rfl, List.mem_of_getElem? (i := 94) rfl, List.mem_of_getElem? (i := 95) rfl⟩
theorem lw_p3 : lw_okq (⟨"StateDesk", "wait", "(I)V"⟩, 17) := ⟨⟨by decide +kernel, by decide +kernel⟩, List.mem_of_getElem? (i := 7) rfl, List.mem_of_getElem? (i := 104) rfl, List.mem_of_getElem? (i := 105) rfl⟩
theorem lw_p4 : lw_okq (⟨"StateDesk", "behind", "(II)I"⟩, 17) := ⟨⟨by decide +kernel, by decide +kernel⟩, List.mem_of_getElem? (i := 7) rfl, List.mem_of_getElem? (i := 108) rfl, List.mem_of_getElem? (i := 109) rfl⟩
theorem lw_p5 : lw_okq (⟨"StateDesk", "split", "(II)V"⟩, 17) := ⟨⟨by decide +kernel, by decide +kernel⟩, List.mem_of_getElem? (i := 7) rfl, List.mem_of_getElem? (i := 112) rfl, List.mem_of_getElem? (i := 113) rfl⟩
theorem lw_p6 : lw_okq (⟨"StateDesk", "isWaiting", "(II)Z"⟩, 17) := ⟨⟨by decide +kernel, by decide +kernel⟩, List.mem_of_getElem? (i := 7) rfl, List.mem_of_getElem? (i := 116) rfl, List.mem_of_getElem? (i := 117) rfl⟩
theorem lw_p7 : lw_okq (⟨"StateDesk", "splitWaiting", "(III)V"⟩, 17) := ⟨⟨by decide +kernel, by decide +kernel⟩, List.mem_of_getElem? (i := 7) rfl, List.mem_of_getElem? (i := 120) rfl, List.mem_of_getElem? (i := 121) rfl⟩
theorem lw_p8 : lw_okq (⟨"StateDesk", "take", "()V"⟩, 17) := ⟨⟨by decide +kernel, by decide +kernel⟩, List.mem_of_getElem? (i := 7) rfl, List.mem_of_getElem? (i := 124) rfl, List.mem_of_getElem? (i := 125) rfl⟩
theorem lw_p9 : lw_okq (⟨"StateDeskModel", "at", "(I)I"⟩, 7) := ⟨⟨by decide +kernel, by decide +kernel⟩, List.mem_of_getElem? (i := 154) rfl, List.mem_of_getElem? (i := 190) rfl, List.mem_of_getElem? (i := 191) rfl⟩
theorem lw_p10 : lw_okq (⟨"StateDeskModel", "walk", "(III)I"⟩, 7) := ⟨⟨by decide +kernel, by decide +kernel⟩, List.mem_of_getElem? (i := 154) rfl, List.mem_of_getElem? (i := 199) rfl, List.mem_of_getElem? (i := 200) rfl⟩
theorem lw_p11 : lw_okq (⟨"StateDeskModel", "reckon", "()V"⟩, 7) := ⟨⟨by decide +kernel, by decide +kernel⟩, List.mem_of_getElem? (i := 154) rfl, List.mem_of_getElem? (i := 207) rfl, List.mem_of_getElem? (i := 208) rfl⟩
theorem lw_p12 : lw_okq (⟨"StateDeskModel", "far", "()V"⟩, 7) := ⟨⟨by decide +kernel, by decide +kernel⟩, List.mem_of_getElem? (i := 154) rfl, List.mem_of_getElem? (i := 224) rfl, List.mem_of_getElem? (i := 225) rfl⟩
def lw_privs_1 : List (MethodName × Nat) := [(⟨"StateDesk", "state", "(I)I"⟩, 17), (⟨"StateDesk", "kindOf", "(I)I"⟩, 17), (⟨"StateDesk", "reckon", "()V"⟩, 17), (⟨"StateDesk", "wait", "(I)V"⟩, 17), (⟨"StateDesk", "behind", "(II)I"⟩, 17), (⟨"StateDesk", "split", "(II)V"⟩, 17), (⟨"StateDesk", "isWaiting", "(II)Z"⟩, 17), (⟨"StateDesk", "splitWaiting", "(III)V"⟩, 17), (⟨"StateDesk", "take", "()V"⟩, 17), (⟨"StateDeskModel", "at", "(I)I"⟩, 7), (⟨"StateDeskModel", "walk", "(III)I"⟩, 7), (⟨"StateDeskModel", "reckon", "()V"⟩, 7), (⟨"StateDeskModel", "far", "()V"⟩, 7)]
theorem lw_r1 : ∀ q ∈ lw_privs_1, lw_okq q := List.forall_mem_cons.mpr ⟨lw_p0, List.forall_mem_cons.mpr ⟨lw_p1, List.forall_mem_cons.mpr ⟨lw_p2, List.forall_mem_cons.mpr ⟨lw_p3, List.forall_mem_cons.mpr ⟨lw_p4, List.forall_mem_cons.mpr ⟨lw_p5, List.forall_mem_cons.mpr ⟨lw_p6, List.forall_mem_cons.mpr ⟨lw_p7, List.forall_mem_cons.mpr ⟨lw_p8, List.forall_mem_cons.mpr ⟨lw_p9, List.forall_mem_cons.mpr ⟨lw_p10, List.forall_mem_cons.mpr ⟨lw_p11, List.forall_mem_cons.mpr ⟨lw_p12, fun _ h => absurd h List.not_mem_nil⟩⟩⟩⟩⟩⟩⟩⟩⟩⟩⟩⟩⟩
def lw_privs : List (MethodName × Nat) := lw_privs_1
def lw_tbl : List Cond := k2_sels lw_privs ++ tables_1
theorem lw_privs_ok : ∀ q ∈ lw_privs, lw_okq q := lw_r1
-- ===== ONE list of words for every method: the tables' words that hold all through a run =====
def lw_all : List Cond := lw_tbl.filter goodWord
/-- a word of the tables by its place: claim/WORDS.tsv -/
theorem lw_w {w : Cond} (i : Nat) (h : lw_tbl[i]? = some w) (g : goodWord w = true) : w ∈ lw_all := List.mem_filter.mpr ⟨List.mem_of_getElem? h, g⟩
theorem lw_all_tbl {w : Cond} (h : w ∈ lw_all) : w ∈ lw_tbl := (List.mem_filter.mp h).1
theorem lw_self : GoodIn lw_all lw_all := fun w h => ⟨h, good_of_word (List.mem_filter.mp h).2⟩
/-- a class's field words, by their places -/
theorem lw_in (ws : List Cond) (ps : List Nat) (hp : ws = ps.filterMap (fun i => lw_tbl[i]?)) (hg : ws.all goodWord = true) : ∀ w ∈ ws, w ∈ lw_all := by
  intro w h
  have h1 := List.all_eq_true.mp hg w h
  rw [hp] at h
  obtain ⟨i, -, hi⟩ := List.mem_filterMap.mp h
  exact lw_w i hi h1
/-- the words of a contract for the method y with code b, L locals, answer r -/
abbrev ws_ (y : MethodName) (b : ByteArray) (L : Nat) (r : Option FieldType) : List Cond := Cond.code y b L r :: lw_all
theorem lw_meth {y : MethodName} {b : ByteArray} {L : Nat} {r : Option FieldType} (h : Cond.code y b L r ∈ lw_all) : GoodIn lw_all (ws_ y b L r) := by
  intro w hw
  rcases List.mem_cons.mp hw with e | e
  · rw [e]
    exact lw_self _ h
  · exact lw_self _ e
theorem lw_app {a c : List Cond} (ha : ∀ w ∈ a, w ∈ lw_all) (hc : GoodIn lw_all c) : GoodIn lw_all (a ++ c) := by
  intro w hw
  rcases List.mem_append.mp hw with e | e
  · exact lw_self w (ha w e)
  · exact hc w e
/-- what a call through an object asks: cwV n hts (lw_V ..) -/
theorem lw_V {own : String} {idx : Nat} {C : String} {y : MethodName} {b : ByteArray} {L : Nat} {r : Option FieldType} (h1 : Cond.methodLink own idx y ∈ lw_all) (h2 : Cond.instanceMethod y ∈ lw_all) (h3 : Cond.selects C y y ∈ lw_all) (h4 : Cond.initialized C ∈ lw_all) (h5 : Cond.code y b L r ∈ lw_all) : GoodIn lw_all (wsV own idx C y (ws_ y b L r)) := by
  refine lw_app ?_ (lw_meth h5)
  intro w hw
  simp only [List.mem_cons, List.not_mem_nil, or_false] at hw
  rcases hw with e | e | e | e
  · rw [e]; exact h1
  · rw [e]; exact h2
  · rw [e]; exact h3
  · rw [e]; exact h4
/-- what a static call asks: va_cwS n hts (lw_S ..) -/
theorem lw_S {own : String} {idx : Nat} {y : MethodName} {b : ByteArray} {L : Nat} {r : Option FieldType} (h1 : Cond.methodLink own idx y ∈ lw_all) (h2 : Cond.static y ∈ lw_all) (h3 : Cond.initialized y.cls ∈ lw_all) (h4 : Cond.code y b L r ∈ lw_all) : GoodIn lw_all (va_wsS own idx y (ws_ y b L r)) := by
  refine lw_app ?_ (lw_meth h4)
  intro w hw
  simp only [List.mem_cons, List.not_mem_nil, or_false] at hw
  rcases hw with e | e | e
  · rw [e]; exact h1
  · rw [e]; exact h2
  · rw [e]; exact h3
/-- the words of a contract for a method WITH HANDLERS (hh: its table) -/
abbrev wsW_ (y : MethodName) (b : ByteArray) (L : Nat) (r : Option FieldType) (hh : List (Nat × Nat × Nat × Nat)) : List Cond := Cond.codeWith y b L r hh :: lw_all
theorem lw_methW {y : MethodName} {b : ByteArray} {L : Nat} {r : Option FieldType} {hh : List (Nat × Nat × Nat × Nat)} (h : Cond.codeWith y b L r hh ∈ lw_all) : GoodIn lw_all (wsW_ y b L r hh) := by
  intro w hw
  rcases List.mem_cons.mp hw with e | e
  · rw [e]
    exact lw_self _ h
  · exact lw_self _ e
/-- any list of words by their places (lw_in), good -/
theorem lw_good {ws : List Cond} (h : ∀ w ∈ ws, w ∈ lw_all) : GoodIn lw_all ws := fun w hw => lw_self w (h w hw)
/-- what a call of a method with handlers asks: vx_cwVW n hts (lw_VW ..), vx_cwSW n hts (lw_SW ..) -/
theorem lw_VW {own : String} {idx : Nat} {C : String} {y : MethodName} {b : ByteArray} {L : Nat} {r : Option FieldType} {hh : List (Nat × Nat × Nat × Nat)} (h1 : Cond.methodLink own idx y ∈ lw_all) (h2 : Cond.instanceMethod y ∈ lw_all) (h3 : Cond.selects C y y ∈ lw_all) (h4 : Cond.initialized C ∈ lw_all) (h5 : Cond.codeWith y b L r hh ∈ lw_all) : GoodIn lw_all (wsV own idx C y (wsW_ y b L r hh)) := by
  refine lw_app ?_ (lw_methW h5)
  intro w hw
  simp only [List.mem_cons, List.not_mem_nil, or_false] at hw
  rcases hw with e | e | e | e
  · rw [e]; exact h1
  · rw [e]; exact h2
  · rw [e]; exact h3
  · rw [e]; exact h4
theorem lw_SW {own : String} {idx : Nat} {y : MethodName} {b : ByteArray} {L : Nat} {r : Option FieldType} {hh : List (Nat × Nat × Nat × Nat)} (h1 : Cond.methodLink own idx y ∈ lw_all) (h2 : Cond.static y ∈ lw_all) (h3 : Cond.initialized y.cls ∈ lw_all) (h4 : Cond.codeWith y b L r hh ∈ lw_all) : GoodIn lw_all (va_wsS own idx y (wsW_ y b L r hh)) := by
  refine lw_app ?_ (lw_methW h4)
  intro w hw
  simp only [List.mem_cons, List.not_mem_nil, or_false] at hw
  rcases hw with e | e | e
  · rw [e]; exact h1
  · rw [e]; exact h2
  · rw [e]; exact h3
/-- a word by its place in its run of the tables -/
theorem lw_at {r : List Cond} (hr : ∀ w ∈ r, w ∈ lw_tbl) {w : Cond} (i : Nat) (h : r[i]? = some w) : w ∈ lw_tbl := hr w (List.mem_of_getElem? h)
theorem lw_g {w : Cond} (h : w ∈ lw_tbl) (g : goodWord w = true) : w ∈ lw_all := List.mem_filter.mpr ⟨h, g⟩
theorem lw_ms : ∀ w ∈ k2_sels lw_privs, w ∈ lw_tbl := fun w h => show w ∈ k2_sels lw_privs ++ tables_1 from List.mem_append_left _ h
theorem lw_m0 : ∀ w ∈ tables_1, w ∈ lw_tbl := fun w h => show w ∈ k2_sels lw_privs ++ tables_1 from List.mem_append_right (k2_sels lw_privs) h
theorem qs0 : (Cond.selects "StateDesk" ⟨"StateDesk", "state", "(I)I"⟩ ⟨"StateDesk", "state", "(I)I"⟩) ∈ lw_all := lw_g (lw_at lw_ms 0 rfl) rfl
theorem qs1 : (Cond.selects "StateDesk" ⟨"StateDesk", "kindOf", "(I)I"⟩ ⟨"StateDesk", "kindOf", "(I)I"⟩) ∈ lw_all := lw_g (lw_at lw_ms 1 rfl) rfl
theorem qs2 : (Cond.selects "StateDesk" ⟨"StateDesk", "reckon", "()V"⟩ ⟨"StateDesk", "reckon", "()V"⟩) ∈ lw_all := lw_g (lw_at lw_ms 2 rfl) rfl
theorem qs3 : (Cond.selects "StateDesk" ⟨"StateDesk", "wait", "(I)V"⟩ ⟨"StateDesk", "wait", "(I)V"⟩) ∈ lw_all := lw_g (lw_at lw_ms 3 rfl) rfl
theorem qs4 : (Cond.selects "StateDesk" ⟨"StateDesk", "behind", "(II)I"⟩ ⟨"StateDesk", "behind", "(II)I"⟩) ∈ lw_all := lw_g (lw_at lw_ms 4 rfl) rfl
theorem qs5 : (Cond.selects "StateDesk" ⟨"StateDesk", "split", "(II)V"⟩ ⟨"StateDesk", "split", "(II)V"⟩) ∈ lw_all := lw_g (lw_at lw_ms 5 rfl) rfl
theorem qs6 : (Cond.selects "StateDesk" ⟨"StateDesk", "isWaiting", "(II)Z"⟩ ⟨"StateDesk", "isWaiting", "(II)Z"⟩) ∈ lw_all := lw_g (lw_at lw_ms 6 rfl) rfl
theorem qs7 : (Cond.selects "StateDesk" ⟨"StateDesk", "splitWaiting", "(III)V"⟩ ⟨"StateDesk", "splitWaiting", "(III)V"⟩) ∈ lw_all := lw_g (lw_at lw_ms 7 rfl) rfl
theorem qs8 : (Cond.selects "StateDesk" ⟨"StateDesk", "take", "()V"⟩ ⟨"StateDesk", "take", "()V"⟩) ∈ lw_all := lw_g (lw_at lw_ms 8 rfl) rfl
theorem qs9 : (Cond.selects "StateDeskModel" ⟨"StateDeskModel", "at", "(I)I"⟩ ⟨"StateDeskModel", "at", "(I)I"⟩) ∈ lw_all := lw_g (lw_at lw_ms 9 rfl) rfl
theorem qs10 : (Cond.selects "StateDeskModel" ⟨"StateDeskModel", "walk", "(III)I"⟩ ⟨"StateDeskModel", "walk", "(III)I"⟩) ∈ lw_all := lw_g (lw_at lw_ms 10 rfl) rfl
theorem qs11 : (Cond.selects "StateDeskModel" ⟨"StateDeskModel", "reckon", "()V"⟩ ⟨"StateDeskModel", "reckon", "()V"⟩) ∈ lw_all := lw_g (lw_at lw_ms 11 rfl) rfl
theorem qs12 : (Cond.selects "StateDeskModel" ⟨"StateDeskModel", "far", "()V"⟩ ⟨"StateDeskModel", "far", "()V"⟩) ∈ lw_all := lw_g (lw_at lw_ms 12 rfl) rfl
end
section
/-! StateDesk -/
set_option maxRecDepth 100000
def RX0 : String := "StateDesk"
def TX0 : u_T := fun k => match k with
  | 0 => ("StateDesk", "n", "I", false)
  | 1 => ("StateDesk", "ends", "I", false)
  | 2 => ("StateDesk", "to", "[I", true)
  | 3 => ("StateDesk", "reckoned", "Z", false)
  | 4 => ("StateDesk", "kind", "[I", true)
  | 5 => ("StateDesk", "least", "[I", true)
  | 6 => ("StateDesk", "kinds", "I", false)
  | 7 => ("StateDesk", "leastEnds", "I", false)
  | 8 => ("StateDesk", "set", "[I", true)
  | 9 => ("StateDesk", "waiting", "[I", true)
  | 10 => ("StateDesk", "sets", "I", false)
  | 11 => ("StateDesk", "waits", "I", false)
  | 12 => ("StateDesk", "pair", "[I", true)
  | 13 => ("StateDesk", "wordOf", "[I", true)
  | 14 => ("StateDesk", "met", "[Z", true)
  | 15 => ("StateDesk", "now", "[J", true)
  | _ => ("StateDesk", "next", "[J", true)
def tyX0 : Nat → FieldType := fun k => match k with
  | 0 => .int
  | 1 => .int
  | 2 => .array .int
  | 3 => .boolean
  | 4 => .array .int
  | 5 => .array .int
  | 6 => .int
  | 7 => .int
  | 8 => .array .int
  | 9 => .array .int
  | 10 => .int
  | 11 => .int
  | 12 => .array .int
  | 13 => .array .int
  | 14 => .array .boolean
  | 15 => .array .long
  | _ => .array .long
abbrev wsX00 : List Cond := u_ws RX0 TX0 17
set_option maxRecDepth 100000 in
theorem nmX0 : ∀ a, a < 17 → ∀ b, b < 17 → a ≠ b → (TX0 a).2.1 ≠ (TX0 b).2.1 := by decide +kernel
set_option maxRecDepth 100000 in
theorem tyX0_ok : ∀ k, k < 17 → parseFieldDescriptor (TX0 k).2.2.1 = some (tyX0 k) := by decide +kernel
abbrev cX0_init : ByteArray := prog_1_method_1_code
def yX0_init : MethodName := ⟨RX0, "<init>", "()V"⟩
theorem dX0_init_0 : decode cX0_init 0 = .ok (.aload_n 0, 1) := by decide +kernel
theorem dX0_init_1 : decode cX0_init 1 = .ok (.invokespecial 1, 3) := by decide +kernel
theorem dX0_init_4 : decode cX0_init 4 = .ok (.aload_n 0, 1) := by decide +kernel
theorem dX0_init_5 : decode cX0_init 5 = .ok (.iconst 2, 1) := by decide +kernel
theorem dX0_init_6 : decode cX0_init 6 = .ok (.putfield 7, 3) := by decide +kernel
theorem dX0_init_9 : decode cX0_init 9 = .ok (.aload_n 0, 1) := by decide +kernel
theorem dX0_init_10 : decode cX0_init 10 = .ok (.bipush 32, 2) := by decide +kernel
theorem dX0_init_12 : decode cX0_init 12 = .ok (.newarray .int, 2) := by decide +kernel
theorem dX0_init_14 : decode cX0_init 14 = .ok (.putfield 13, 3) := by decide +kernel
theorem dX0_init_17 : decode cX0_init 17 = .ok (.aload_n 0, 1) := by decide +kernel
theorem dX0_init_18 : decode cX0_init 18 = .ok (.bipush 16, 2) := by decide +kernel
theorem dX0_init_20 : decode cX0_init 20 = .ok (.newarray .int, 2) := by decide +kernel
theorem dX0_init_22 : decode cX0_init 22 = .ok (.putfield 17, 3) := by decide +kernel
theorem dX0_init_25 : decode cX0_init 25 = .ok (.aload_n 0, 1) := by decide +kernel
theorem dX0_init_26 : decode cX0_init 26 = .ok (.bipush 32, 2) := by decide +kernel
theorem dX0_init_28 : decode cX0_init 28 = .ok (.newarray .int, 2) := by decide +kernel
theorem dX0_init_30 : decode cX0_init 30 = .ok (.putfield 20, 3) := by decide +kernel
theorem dX0_init_33 : decode cX0_init 33 = .ok (.aload_n 0, 1) := by decide +kernel
theorem dX0_init_34 : decode cX0_init 34 = .ok (.bipush 16, 2) := by decide +kernel
theorem dX0_init_36 : decode cX0_init 36 = .ok (.newarray .int, 2) := by decide +kernel
theorem dX0_init_38 : decode cX0_init 38 = .ok (.putfield 23, 3) := by decide +kernel
theorem dX0_init_41 : decode cX0_init 41 = .ok (.aload_n 0, 1) := by decide +kernel
theorem dX0_init_42 : decode cX0_init 42 = .ok (.sipush 512, 3) := by decide +kernel
theorem dX0_init_45 : decode cX0_init 45 = .ok (.newarray .int, 2) := by decide +kernel
theorem dX0_init_47 : decode cX0_init 47 = .ok (.putfield 26, 3) := by decide +kernel
theorem dX0_init_50 : decode cX0_init 50 = .ok (.aload_n 0, 1) := by decide +kernel
theorem dX0_init_51 : decode cX0_init 51 = .ok (.sipush 256, 3) := by decide +kernel
theorem dX0_init_54 : decode cX0_init 54 = .ok (.newarray .int, 2) := by decide +kernel
theorem dX0_init_56 : decode cX0_init 56 = .ok (.putfield 29, 3) := by decide +kernel
theorem dX0_init_59 : decode cX0_init 59 = .ok (.aload_n 0, 1) := by decide +kernel
theorem dX0_init_60 : decode cX0_init 60 = .ok (.sipush 256, 3) := by decide +kernel
theorem dX0_init_63 : decode cX0_init 63 = .ok (.newarray .int, 2) := by decide +kernel
theorem dX0_init_65 : decode cX0_init 65 = .ok (.putfield 32, 3) := by decide +kernel
theorem dX0_init_68 : decode cX0_init 68 = .ok (.aload_n 0, 1) := by decide +kernel
theorem dX0_init_69 : decode cX0_init 69 = .ok (.sipush 256, 3) := by decide +kernel
theorem dX0_init_72 : decode cX0_init 72 = .ok (.newarray .boolean, 2) := by decide +kernel
theorem dX0_init_74 : decode cX0_init 74 = .ok (.putfield 35, 3) := by decide +kernel
theorem dX0_init_77 : decode cX0_init 77 = .ok (.aload_n 0, 1) := by decide +kernel
theorem dX0_init_78 : decode cX0_init 78 = .ok (.bipush 16, 2) := by decide +kernel
theorem dX0_init_80 : decode cX0_init 80 = .ok (.newarray .long, 2) := by decide +kernel
theorem dX0_init_82 : decode cX0_init 82 = .ok (.putfield 39, 3) := by decide +kernel
theorem dX0_init_85 : decode cX0_init 85 = .ok (.aload_n 0, 1) := by decide +kernel
theorem dX0_init_86 : decode cX0_init 86 = .ok (.bipush 16, 2) := by decide +kernel
theorem dX0_init_88 : decode cX0_init 88 = .ok (.newarray .long, 2) := by decide +kernel
theorem dX0_init_90 : decode cX0_init 90 = .ok (.putfield 43, 3) := by decide +kernel
theorem dX0_init_93 : decode cX0_init 93 = .ok (.return_, 1) := by decide +kernel
abbrev cX0_states : ByteArray := prog_1_method_2_code
def yX0_states : MethodName := ⟨RX0, "states", "(I)V"⟩
theorem dX0_states_0 : decode cX0_states 0 = .ok (.aload_n 0, 1) := by decide +kernel
theorem dX0_states_1 : decode cX0_states 1 = .ok (.iconst 1, 1) := by decide +kernel
theorem dX0_states_2 : decode cX0_states 2 = .ok (.iload_n 1, 1) := by decide +kernel
theorem dX0_states_3 : decode cX0_states 3 = .ok (.bipush 15, 2) := by decide +kernel
theorem dX0_states_5 : decode cX0_states 5 = .ok (.iand, 1) := by decide +kernel
theorem dX0_states_6 : decode cX0_states 6 = .ok (.iadd, 1) := by decide +kernel
theorem dX0_states_7 : decode cX0_states 7 = .ok (.putfield 7, 3) := by decide +kernel
theorem dX0_states_10 : decode cX0_states 10 = .ok (.aload_n 0, 1) := by decide +kernel
theorem dX0_states_11 : decode cX0_states 11 = .ok (.iconst 0, 1) := by decide +kernel
theorem dX0_states_12 : decode cX0_states 12 = .ok (.putfield 46, 3) := by decide +kernel
theorem dX0_states_15 : decode cX0_states 15 = .ok (.aload_n 0, 1) := by decide +kernel
theorem dX0_states_16 : decode cX0_states 16 = .ok (.getfield 13, 3) := by decide +kernel
theorem dX0_states_19 : decode cX0_states 19 = .ok (.iconst 0, 1) := by decide +kernel
theorem dX0_states_20 : decode cX0_states 20 = .ok (.invokestatic 49, 3) := by decide +kernel
theorem dX0_states_23 : decode cX0_states 23 = .ok (.aload_n 0, 1) := by decide +kernel
theorem dX0_states_24 : decode cX0_states 24 = .ok (.iconst 0, 1) := by decide +kernel
theorem dX0_states_25 : decode cX0_states 25 = .ok (.putfield 55, 3) := by decide +kernel
theorem dX0_states_28 : decode cX0_states 28 = .ok (.return_, 1) := by decide +kernel
abbrev cX0_set : ByteArray := prog_1_method_4_code
def yX0_set : MethodName := ⟨RX0, "set", "(IIII)V"⟩
theorem dX0_set_0 : decode cX0_set 0 = .ok (.aload_n 0, 1) := by decide +kernel
theorem dX0_set_1 : decode cX0_set 1 = .ok (.iload_n 1, 1) := by decide +kernel
theorem dX0_set_2 : decode cX0_set 2 = .ok (.invokevirtual 62, 3) := by decide +kernel
theorem dX0_set_5 : decode cX0_set 5 = .ok (.istore 5, 2) := by decide +kernel
theorem dX0_set_7 : decode cX0_set 7 = .ok (.aload_n 0, 1) := by decide +kernel
theorem dX0_set_8 : decode cX0_set 8 = .ok (.getfield 13, 3) := by decide +kernel
theorem dX0_set_11 : decode cX0_set 11 = .ok (.iconst 2, 1) := by decide +kernel
theorem dX0_set_12 : decode cX0_set 12 = .ok (.iload 5, 2) := by decide +kernel
theorem dX0_set_14 : decode cX0_set 14 = .ok (.imul, 1) := by decide +kernel
theorem dX0_set_15 : decode cX0_set 15 = .ok (.aload_n 0, 1) := by decide +kernel
theorem dX0_set_16 : decode cX0_set 16 = .ok (.iload_n 2, 1) := by decide +kernel
theorem dX0_set_17 : decode cX0_set 17 = .ok (.invokevirtual 62, 3) := by decide +kernel
theorem dX0_set_20 : decode cX0_set 20 = .ok (.iastore, 1) := by decide +kernel
theorem dX0_set_21 : decode cX0_set 21 = .ok (.aload_n 0, 1) := by decide +kernel
theorem dX0_set_22 : decode cX0_set 22 = .ok (.getfield 13, 3) := by decide +kernel
theorem dX0_set_25 : decode cX0_set 25 = .ok (.iconst 2, 1) := by decide +kernel
theorem dX0_set_26 : decode cX0_set 26 = .ok (.iload 5, 2) := by decide +kernel
theorem dX0_set_28 : decode cX0_set 28 = .ok (.imul, 1) := by decide +kernel
theorem dX0_set_29 : decode cX0_set 29 = .ok (.iconst 1, 1) := by decide +kernel
theorem dX0_set_30 : decode cX0_set 30 = .ok (.iadd, 1) := by decide +kernel
theorem dX0_set_31 : decode cX0_set 31 = .ok (.aload_n 0, 1) := by decide +kernel
theorem dX0_set_32 : decode cX0_set 32 = .ok (.iload_n 3, 1) := by decide +kernel
theorem dX0_set_33 : decode cX0_set 33 = .ok (.invokevirtual 62, 3) := by decide +kernel
theorem dX0_set_36 : decode cX0_set 36 = .ok (.iastore, 1) := by decide +kernel
theorem dX0_set_37 : decode cX0_set 37 = .ok (.aload_n 0, 1) := by decide +kernel
theorem dX0_set_38 : decode cX0_set 38 = .ok (.iload 4, 2) := by decide +kernel
theorem dX0_set_40 : decode cX0_set 40 = .ok (.iconst 1, 1) := by decide +kernel
theorem dX0_set_41 : decode cX0_set 41 = .ok (.iand, 1) := by decide +kernel
theorem dX0_set_42 : decode cX0_set 42 = .ok (.iconst 1, 1) := by decide +kernel
theorem dX0_set_43 : decode cX0_set 43 = .ok (.if_icmp .ne 15, 3) := by decide +kernel
theorem dX0_set_46 : decode cX0_set 46 = .ok (.aload_n 0, 1) := by decide +kernel
theorem dX0_set_47 : decode cX0_set 47 = .ok (.getfield 46, 3) := by decide +kernel
theorem dX0_set_50 : decode cX0_set 50 = .ok (.iconst 1, 1) := by decide +kernel
theorem dX0_set_51 : decode cX0_set 51 = .ok (.iload 5, 2) := by decide +kernel
theorem dX0_set_53 : decode cX0_set 53 = .ok (.ishl, 1) := by decide +kernel
theorem dX0_set_54 : decode cX0_set 54 = .ok (.ior, 1) := by decide +kernel
theorem dX0_set_55 : decode cX0_set 55 = .ok (.goto 14, 3) := by decide +kernel
theorem dX0_set_58 : decode cX0_set 58 = .ok (.aload_n 0, 1) := by decide +kernel
theorem dX0_set_59 : decode cX0_set 59 = .ok (.getfield 46, 3) := by decide +kernel
theorem dX0_set_62 : decode cX0_set 62 = .ok (.iconst 1, 1) := by decide +kernel
theorem dX0_set_63 : decode cX0_set 63 = .ok (.iload 5, 2) := by decide +kernel
theorem dX0_set_65 : decode cX0_set 65 = .ok (.ishl, 1) := by decide +kernel
theorem dX0_set_66 : decode cX0_set 66 = .ok (.iconst (-1), 1) := by decide +kernel
theorem dX0_set_67 : decode cX0_set 67 = .ok (.ixor, 1) := by decide +kernel
theorem dX0_set_68 : decode cX0_set 68 = .ok (.iand, 1) := by decide +kernel
theorem dX0_set_69 : decode cX0_set 69 = .ok (.putfield 46, 3) := by decide +kernel
theorem dX0_set_72 : decode cX0_set 72 = .ok (.aload_n 0, 1) := by decide +kernel
theorem dX0_set_73 : decode cX0_set 73 = .ok (.iconst 0, 1) := by decide +kernel
theorem dX0_set_74 : decode cX0_set 74 = .ok (.putfield 55, 3) := by decide +kernel
theorem dX0_set_77 : decode cX0_set 77 = .ok (.return_, 1) := by decide +kernel
abbrev cX0_state : ByteArray := prog_1_method_3_code
def yX0_state : MethodName := ⟨RX0, "state", "(I)I"⟩
theorem dX0_state_0 : decode cX0_state 0 = .ok (.iload_n 1, 1) := by decide +kernel
theorem dX0_state_1 : decode cX0_state 1 = .ok (.ldc 61, 2) := by decide +kernel
theorem dX0_state_3 : decode cX0_state 3 = .ok (.iand, 1) := by decide +kernel
theorem dX0_state_4 : decode cX0_state 4 = .ok (.aload_n 0, 1) := by decide +kernel
theorem dX0_state_5 : decode cX0_state 5 = .ok (.getfield 7, 3) := by decide +kernel
theorem dX0_state_8 : decode cX0_state 8 = .ok (.irem, 1) := by decide +kernel
theorem dX0_state_9 : decode cX0_state 9 = .ok (.ireturn, 1) := by decide +kernel
abbrev cX0_takes : ByteArray := prog_1_method_13_code
def yX0_takes : MethodName := ⟨RX0, "takes", "(III)Z"⟩
theorem dX0_takes_0 : decode cX0_takes 0 = .ok (.aload_n 0, 1) := by decide +kernel
theorem dX0_takes_1 : decode cX0_takes 1 = .ok (.iload_n 1, 1) := by decide +kernel
theorem dX0_takes_2 : decode cX0_takes 2 = .ok (.invokevirtual 107, 3) := by decide +kernel
theorem dX0_takes_5 : decode cX0_takes 5 = .ok (.istore 4, 2) := by decide +kernel
theorem dX0_takes_7 : decode cX0_takes 7 = .ok (.iconst 0, 1) := by decide +kernel
theorem dX0_takes_8 : decode cX0_takes 8 = .ok (.istore 5, 2) := by decide +kernel
theorem dX0_takes_10 : decode cX0_takes 10 = .ok (.iload 5, 2) := by decide +kernel
theorem dX0_takes_12 : decode cX0_takes 12 = .ok (.iload_n 3, 1) := by decide +kernel
theorem dX0_takes_13 : decode cX0_takes 13 = .ok (.bipush 31, 2) := by decide +kernel
theorem dX0_takes_15 : decode cX0_takes 15 = .ok (.iand, 1) := by decide +kernel
theorem dX0_takes_16 : decode cX0_takes 16 = .ok (.if_icmp .ge 27, 3) := by decide +kernel
theorem dX0_takes_19 : decode cX0_takes 19 = .ok (.aload_n 0, 1) := by decide +kernel
theorem dX0_takes_20 : decode cX0_takes 20 = .ok (.getfield 20, 3) := by decide +kernel
theorem dX0_takes_23 : decode cX0_takes 23 = .ok (.iconst 2, 1) := by decide +kernel
theorem dX0_takes_24 : decode cX0_takes 24 = .ok (.iload 4, 2) := by decide +kernel
theorem dX0_takes_26 : decode cX0_takes 26 = .ok (.imul, 1) := by decide +kernel
theorem dX0_takes_27 : decode cX0_takes 27 = .ok (.iload_n 2, 1) := by decide +kernel
theorem dX0_takes_28 : decode cX0_takes 28 = .ok (.iload 5, 2) := by decide +kernel
theorem dX0_takes_30 : decode cX0_takes 30 = .ok (.iushr, 1) := by decide +kernel
theorem dX0_takes_31 : decode cX0_takes 31 = .ok (.iconst 1, 1) := by decide +kernel
theorem dX0_takes_32 : decode cX0_takes 32 = .ok (.iand, 1) := by decide +kernel
theorem dX0_takes_33 : decode cX0_takes 33 = .ok (.iadd, 1) := by decide +kernel
theorem dX0_takes_34 : decode cX0_takes 34 = .ok (.iaload, 1) := by decide +kernel
theorem dX0_takes_35 : decode cX0_takes 35 = .ok (.istore 4, 2) := by decide +kernel
theorem dX0_takes_37 : decode cX0_takes 37 = .ok (.iinc 5 1, 3) := by decide +kernel
theorem dX0_takes_40 : decode cX0_takes 40 = .ok (.goto (-30), 3) := by decide +kernel
theorem dX0_takes_43 : decode cX0_takes 43 = .ok (.aload_n 0, 1) := by decide +kernel
theorem dX0_takes_44 : decode cX0_takes 44 = .ok (.getfield 101, 3) := by decide +kernel
theorem dX0_takes_47 : decode cX0_takes 47 = .ok (.iload 4, 2) := by decide +kernel
theorem dX0_takes_49 : decode cX0_takes 49 = .ok (.ishr, 1) := by decide +kernel
theorem dX0_takes_50 : decode cX0_takes 50 = .ok (.iconst 1, 1) := by decide +kernel
theorem dX0_takes_51 : decode cX0_takes 51 = .ok (.iand, 1) := by decide +kernel
theorem dX0_takes_52 : decode cX0_takes 52 = .ok (.iconst 1, 1) := by decide +kernel
theorem dX0_takes_53 : decode cX0_takes 53 = .ok (.if_icmp .ne 7, 3) := by decide +kernel
theorem dX0_takes_56 : decode cX0_takes 56 = .ok (.iconst 1, 1) := by decide +kernel
theorem dX0_takes_57 : decode cX0_takes 57 = .ok (.goto 4, 3) := by decide +kernel
theorem dX0_takes_60 : decode cX0_takes 60 = .ok (.iconst 0, 1) := by decide +kernel
theorem dX0_takes_61 : decode cX0_takes 61 = .ok (.ireturn, 1) := by decide +kernel
abbrev cX0_kindOf : ByteArray := prog_1_method_12_code
def yX0_kindOf : MethodName := ⟨RX0, "kindOf", "(I)I"⟩
theorem dX0_kindOf_0 : decode cX0_kindOf 0 = .ok (.aload_n 0, 1) := by decide +kernel
theorem dX0_kindOf_1 : decode cX0_kindOf 1 = .ok (.invokevirtual 104, 3) := by decide +kernel
theorem dX0_kindOf_4 : decode cX0_kindOf 4 = .ok (.aload_n 0, 1) := by decide +kernel
theorem dX0_kindOf_5 : decode cX0_kindOf 5 = .ok (.getfield 17, 3) := by decide +kernel
theorem dX0_kindOf_8 : decode cX0_kindOf 8 = .ok (.aload_n 0, 1) := by decide +kernel
theorem dX0_kindOf_9 : decode cX0_kindOf 9 = .ok (.iload_n 1, 1) := by decide +kernel
theorem dX0_kindOf_10 : decode cX0_kindOf 10 = .ok (.invokevirtual 62, 3) := by decide +kernel
theorem dX0_kindOf_13 : decode cX0_kindOf 13 = .ok (.iaload, 1) := by decide +kernel
theorem dX0_kindOf_14 : decode cX0_kindOf 14 = .ok (.ireturn, 1) := by decide +kernel
abbrev cX0_reckon : ByteArray := prog_1_method_9_code
def yX0_reckon : MethodName := ⟨RX0, "reckon", "()V"⟩
theorem dX0_reckon_0 : decode cX0_reckon 0 = .ok (.aload_n 0, 1) := by decide +kernel
theorem dX0_reckon_1 : decode cX0_reckon 1 = .ok (.getfield 55, 3) := by decide +kernel
theorem dX0_reckon_4 : decode cX0_reckon 4 = .ok (.ifCond .eq 4, 3) := by decide +kernel
theorem dX0_reckon_7 : decode cX0_reckon 7 = .ok (.return_, 1) := by decide +kernel
theorem dX0_reckon_8 : decode cX0_reckon 8 = .ok (.iconst 1, 1) := by decide +kernel
theorem dX0_reckon_9 : decode cX0_reckon 9 = .ok (.aload_n 0, 1) := by decide +kernel
theorem dX0_reckon_10 : decode cX0_reckon 10 = .ok (.getfield 7, 3) := by decide +kernel
theorem dX0_reckon_13 : decode cX0_reckon 13 = .ok (.ishl, 1) := by decide +kernel
theorem dX0_reckon_14 : decode cX0_reckon 14 = .ok (.iconst 1, 1) := by decide +kernel
theorem dX0_reckon_15 : decode cX0_reckon 15 = .ok (.isub, 1) := by decide +kernel
theorem dX0_reckon_16 : decode cX0_reckon 16 = .ok (.istore_n 1, 1) := by decide +kernel
theorem dX0_reckon_17 : decode cX0_reckon 17 = .ok (.iload_n 1, 1) := by decide +kernel
theorem dX0_reckon_18 : decode cX0_reckon 18 = .ok (.aload_n 0, 1) := by decide +kernel
theorem dX0_reckon_19 : decode cX0_reckon 19 = .ok (.getfield 46, 3) := by decide +kernel
theorem dX0_reckon_22 : decode cX0_reckon 22 = .ok (.iconst (-1), 1) := by decide +kernel
theorem dX0_reckon_23 : decode cX0_reckon 23 = .ok (.ixor, 1) := by decide +kernel
theorem dX0_reckon_24 : decode cX0_reckon 24 = .ok (.iand, 1) := by decide +kernel
theorem dX0_reckon_25 : decode cX0_reckon 25 = .ok (.istore_n 2, 1) := by decide +kernel
theorem dX0_reckon_26 : decode cX0_reckon 26 = .ok (.aload_n 0, 1) := by decide +kernel
theorem dX0_reckon_27 : decode cX0_reckon 27 = .ok (.iconst 0, 1) := by decide +kernel
theorem dX0_reckon_28 : decode cX0_reckon 28 = .ok (.putfield 69, 3) := by decide +kernel
theorem dX0_reckon_31 : decode cX0_reckon 31 = .ok (.aload_n 0, 1) := by decide +kernel
theorem dX0_reckon_32 : decode cX0_reckon 32 = .ok (.iconst 0, 1) := by decide +kernel
theorem dX0_reckon_33 : decode cX0_reckon 33 = .ok (.putfield 66, 3) := by decide +kernel
theorem dX0_reckon_36 : decode cX0_reckon 36 = .ok (.aload_n 0, 1) := by decide +kernel
theorem dX0_reckon_37 : decode cX0_reckon 37 = .ok (.getfield 46, 3) := by decide +kernel
theorem dX0_reckon_40 : decode cX0_reckon 40 = .ok (.ifCond .eq 23, 3) := by decide +kernel
theorem dX0_reckon_43 : decode cX0_reckon 43 = .ok (.aload_n 0, 1) := by decide +kernel
theorem dX0_reckon_44 : decode cX0_reckon 44 = .ok (.getfield 23, 3) := by decide +kernel
theorem dX0_reckon_47 : decode cX0_reckon 47 = .ok (.aload_n 0, 1) := by decide +kernel
theorem dX0_reckon_48 : decode cX0_reckon 48 = .ok (.dup, 1) := by decide +kernel
theorem dX0_reckon_49 : decode cX0_reckon 49 = .ok (.getfield 69, 3) := by decide +kernel
theorem dX0_reckon_52 : decode cX0_reckon 52 = .ok (.dup_x1, 1) := by decide +kernel
theorem dX0_reckon_53 : decode cX0_reckon 53 = .ok (.iconst 1, 1) := by decide +kernel
theorem dX0_reckon_54 : decode cX0_reckon 54 = .ok (.iadd, 1) := by decide +kernel
theorem dX0_reckon_55 : decode cX0_reckon 55 = .ok (.putfield 69, 3) := by decide +kernel
theorem dX0_reckon_58 : decode cX0_reckon 58 = .ok (.aload_n 0, 1) := by decide +kernel
theorem dX0_reckon_59 : decode cX0_reckon 59 = .ok (.getfield 46, 3) := by decide +kernel
theorem dX0_reckon_62 : decode cX0_reckon 62 = .ok (.iastore, 1) := by decide +kernel
theorem dX0_reckon_63 : decode cX0_reckon 63 = .ok (.iload_n 2, 1) := by decide +kernel
theorem dX0_reckon_64 : decode cX0_reckon 64 = .ok (.ifCond .eq 20, 3) := by decide +kernel
theorem dX0_reckon_67 : decode cX0_reckon 67 = .ok (.aload_n 0, 1) := by decide +kernel
theorem dX0_reckon_68 : decode cX0_reckon 68 = .ok (.getfield 23, 3) := by decide +kernel
theorem dX0_reckon_71 : decode cX0_reckon 71 = .ok (.aload_n 0, 1) := by decide +kernel
theorem dX0_reckon_72 : decode cX0_reckon 72 = .ok (.dup, 1) := by decide +kernel
theorem dX0_reckon_73 : decode cX0_reckon 73 = .ok (.getfield 69, 3) := by decide +kernel
theorem dX0_reckon_76 : decode cX0_reckon 76 = .ok (.dup_x1, 1) := by decide +kernel
theorem dX0_reckon_77 : decode cX0_reckon 77 = .ok (.iconst 1, 1) := by decide +kernel
theorem dX0_reckon_78 : decode cX0_reckon 78 = .ok (.iadd, 1) := by decide +kernel
theorem dX0_reckon_79 : decode cX0_reckon 79 = .ok (.putfield 69, 3) := by decide +kernel
theorem dX0_reckon_82 : decode cX0_reckon 82 = .ok (.iload_n 2, 1) := by decide +kernel
theorem dX0_reckon_83 : decode cX0_reckon 83 = .ok (.iastore, 1) := by decide +kernel
theorem dX0_reckon_84 : decode cX0_reckon 84 = .ok (.aload_n 0, 1) := by decide +kernel
theorem dX0_reckon_85 : decode cX0_reckon 85 = .ok (.getfield 69, 3) := by decide +kernel
theorem dX0_reckon_88 : decode cX0_reckon 88 = .ok (.iconst 2, 1) := by decide +kernel
theorem dX0_reckon_89 : decode cX0_reckon 89 = .ok (.if_icmp .ne 29, 3) := by decide +kernel
theorem dX0_reckon_92 : decode cX0_reckon 92 = .ok (.aload_n 0, 1) := by decide +kernel
theorem dX0_reckon_93 : decode cX0_reckon 93 = .ok (.aload_n 0, 1) := by decide +kernel
theorem dX0_reckon_94 : decode cX0_reckon 94 = .ok (.getfield 46, 3) := by decide +kernel
theorem dX0_reckon_97 : decode cX0_reckon 97 = .ok (.invokestatic 72, 3) := by decide +kernel
theorem dX0_reckon_100 : decode cX0_reckon 100 = .ok (.iload_n 2, 1) := by decide +kernel
theorem dX0_reckon_101 : decode cX0_reckon 101 = .ok (.invokestatic 72, 3) := by decide +kernel
theorem dX0_reckon_104 : decode cX0_reckon 104 = .ok (.if_icmp .gt 10, 3) := by decide +kernel
theorem dX0_reckon_107 : decode cX0_reckon 107 = .ok (.aload_n 0, 1) := by decide +kernel
theorem dX0_reckon_108 : decode cX0_reckon 108 = .ok (.getfield 46, 3) := by decide +kernel
theorem dX0_reckon_111 : decode cX0_reckon 111 = .ok (.goto 4, 3) := by decide +kernel
theorem dX0_reckon_114 : decode cX0_reckon 114 = .ok (.iload_n 2, 1) := by decide +kernel
theorem dX0_reckon_115 : decode cX0_reckon 115 = .ok (.invokevirtual 75, 3) := by decide +kernel
theorem dX0_reckon_118 : decode cX0_reckon 118 = .ok (.aload_n 0, 1) := by decide +kernel
theorem dX0_reckon_119 : decode cX0_reckon 119 = .ok (.getfield 66, 3) := by decide +kernel
theorem dX0_reckon_122 : decode cX0_reckon 122 = .ok (.ifCond .le 72, 3) := by decide +kernel
theorem dX0_reckon_125 : decode cX0_reckon 125 = .ok (.aload_n 0, 1) := by decide +kernel
theorem dX0_reckon_126 : decode cX0_reckon 126 = .ok (.dup, 1) := by decide +kernel
theorem dX0_reckon_127 : decode cX0_reckon 127 = .ok (.getfield 66, 3) := by decide +kernel
theorem dX0_reckon_130 : decode cX0_reckon 130 = .ok (.iconst 1, 1) := by decide +kernel
theorem dX0_reckon_131 : decode cX0_reckon 131 = .ok (.isub, 1) := by decide +kernel
theorem dX0_reckon_132 : decode cX0_reckon 132 = .ok (.putfield 66, 3) := by decide +kernel
theorem dX0_reckon_135 : decode cX0_reckon 135 = .ok (.aload_n 0, 1) := by decide +kernel
theorem dX0_reckon_136 : decode cX0_reckon 136 = .ok (.aload_n 0, 1) := by decide +kernel
theorem dX0_reckon_137 : decode cX0_reckon 137 = .ok (.getfield 26, 3) := by decide +kernel
theorem dX0_reckon_140 : decode cX0_reckon 140 = .ok (.aload_n 0, 1) := by decide +kernel
theorem dX0_reckon_141 : decode cX0_reckon 141 = .ok (.getfield 66, 3) := by decide +kernel
theorem dX0_reckon_144 : decode cX0_reckon 144 = .ok (.iaload, 1) := by decide +kernel
theorem dX0_reckon_145 : decode cX0_reckon 145 = .ok (.iconst 1, 1) := by decide +kernel
theorem dX0_reckon_146 : decode cX0_reckon 146 = .ok (.iushr, 1) := by decide +kernel
theorem dX0_reckon_147 : decode cX0_reckon 147 = .ok (.aload_n 0, 1) := by decide +kernel
theorem dX0_reckon_148 : decode cX0_reckon 148 = .ok (.getfield 26, 3) := by decide +kernel
theorem dX0_reckon_151 : decode cX0_reckon 151 = .ok (.aload_n 0, 1) := by decide +kernel
theorem dX0_reckon_152 : decode cX0_reckon 152 = .ok (.getfield 66, 3) := by decide +kernel
theorem dX0_reckon_155 : decode cX0_reckon 155 = .ok (.iaload, 1) := by decide +kernel
theorem dX0_reckon_156 : decode cX0_reckon 156 = .ok (.iconst 1, 1) := by decide +kernel
theorem dX0_reckon_157 : decode cX0_reckon 157 = .ok (.iand, 1) := by decide +kernel
theorem dX0_reckon_158 : decode cX0_reckon 158 = .ok (.invokevirtual 79, 3) := by decide +kernel
theorem dX0_reckon_161 : decode cX0_reckon 161 = .ok (.istore_n 3, 1) := by decide +kernel
theorem dX0_reckon_162 : decode cX0_reckon 162 = .ok (.aload_n 0, 1) := by decide +kernel
theorem dX0_reckon_163 : decode cX0_reckon 163 = .ok (.getfield 69, 3) := by decide +kernel
theorem dX0_reckon_166 : decode cX0_reckon 166 = .ok (.istore 4, 2) := by decide +kernel
theorem dX0_reckon_168 : decode cX0_reckon 168 = .ok (.iconst 0, 1) := by decide +kernel
theorem dX0_reckon_169 : decode cX0_reckon 169 = .ok (.istore 5, 2) := by decide +kernel
theorem dX0_reckon_171 : decode cX0_reckon 171 = .ok (.iload 5, 2) := by decide +kernel
theorem dX0_reckon_173 : decode cX0_reckon 173 = .ok (.iload 4, 2) := by decide +kernel
theorem dX0_reckon_175 : decode cX0_reckon 175 = .ok (.if_icmp .ge 16, 3) := by decide +kernel
theorem dX0_reckon_178 : decode cX0_reckon 178 = .ok (.aload_n 0, 1) := by decide +kernel
theorem dX0_reckon_179 : decode cX0_reckon 179 = .ok (.iload 5, 2) := by decide +kernel
theorem dX0_reckon_181 : decode cX0_reckon 181 = .ok (.iload_n 3, 1) := by decide +kernel
theorem dX0_reckon_182 : decode cX0_reckon 182 = .ok (.invokevirtual 83, 3) := by decide +kernel
theorem dX0_reckon_185 : decode cX0_reckon 185 = .ok (.iinc 5 1, 3) := by decide +kernel
theorem dX0_reckon_188 : decode cX0_reckon 188 = .ok (.goto (-17), 3) := by decide +kernel
theorem dX0_reckon_191 : decode cX0_reckon 191 = .ok (.goto (-73), 3) := by decide +kernel
theorem dX0_reckon_194 : decode cX0_reckon 194 = .ok (.aload_n 0, 1) := by decide +kernel
theorem dX0_reckon_195 : decode cX0_reckon 195 = .ok (.invokevirtual 87, 3) := by decide +kernel
theorem dX0_reckon_198 : decode cX0_reckon 198 = .ok (.aload_n 0, 1) := by decide +kernel
theorem dX0_reckon_199 : decode cX0_reckon 199 = .ok (.iconst 1, 1) := by decide +kernel
theorem dX0_reckon_200 : decode cX0_reckon 200 = .ok (.putfield 55, 3) := by decide +kernel
theorem dX0_reckon_203 : decode cX0_reckon 203 = .ok (.return_, 1) := by decide +kernel
abbrev cX0_wait : ByteArray := prog_1_method_6_code
def yX0_wait : MethodName := ⟨RX0, "wait", "(I)V"⟩
theorem dX0_wait_0 : decode cX0_wait 0 = .ok (.iconst 0, 1) := by decide +kernel
theorem dX0_wait_1 : decode cX0_wait 1 = .ok (.istore_n 2, 1) := by decide +kernel
theorem dX0_wait_2 : decode cX0_wait 2 = .ok (.iload_n 2, 1) := by decide +kernel
theorem dX0_wait_3 : decode cX0_wait 3 = .ok (.iconst 2, 1) := by decide +kernel
theorem dX0_wait_4 : decode cX0_wait 4 = .ok (.if_icmp .ge 33, 3) := by decide +kernel
theorem dX0_wait_7 : decode cX0_wait 7 = .ok (.aload_n 0, 1) := by decide +kernel
theorem dX0_wait_8 : decode cX0_wait 8 = .ok (.getfield 26, 3) := by decide +kernel
theorem dX0_wait_11 : decode cX0_wait 11 = .ok (.aload_n 0, 1) := by decide +kernel
theorem dX0_wait_12 : decode cX0_wait 12 = .ok (.getfield 66, 3) := by decide +kernel
theorem dX0_wait_15 : decode cX0_wait 15 = .ok (.iload_n 1, 1) := by decide +kernel
theorem dX0_wait_16 : decode cX0_wait 16 = .ok (.iconst 1, 1) := by decide +kernel
theorem dX0_wait_17 : decode cX0_wait 17 = .ok (.ishl, 1) := by decide +kernel
theorem dX0_wait_18 : decode cX0_wait 18 = .ok (.iload_n 2, 1) := by decide +kernel
theorem dX0_wait_19 : decode cX0_wait 19 = .ok (.ior, 1) := by decide +kernel
theorem dX0_wait_20 : decode cX0_wait 20 = .ok (.iastore, 1) := by decide +kernel
theorem dX0_wait_21 : decode cX0_wait 21 = .ok (.aload_n 0, 1) := by decide +kernel
theorem dX0_wait_22 : decode cX0_wait 22 = .ok (.dup, 1) := by decide +kernel
theorem dX0_wait_23 : decode cX0_wait 23 = .ok (.getfield 66, 3) := by decide +kernel
theorem dX0_wait_26 : decode cX0_wait 26 = .ok (.iconst 1, 1) := by decide +kernel
theorem dX0_wait_27 : decode cX0_wait 27 = .ok (.iadd, 1) := by decide +kernel
theorem dX0_wait_28 : decode cX0_wait 28 = .ok (.putfield 66, 3) := by decide +kernel
theorem dX0_wait_31 : decode cX0_wait 31 = .ok (.iinc 2 1, 3) := by decide +kernel
theorem dX0_wait_34 : decode cX0_wait 34 = .ok (.goto (-32), 3) := by decide +kernel
theorem dX0_wait_37 : decode cX0_wait 37 = .ok (.return_, 1) := by decide +kernel
abbrev cX0_behind : ByteArray := prog_1_method_5_code
def yX0_behind : MethodName := ⟨RX0, "behind", "(II)I"⟩
theorem dX0_behind_0 : decode cX0_behind 0 = .ok (.iconst 0, 1) := by decide +kernel
theorem dX0_behind_1 : decode cX0_behind 1 = .ok (.istore_n 3, 1) := by decide +kernel
theorem dX0_behind_2 : decode cX0_behind 2 = .ok (.iconst 0, 1) := by decide +kernel
theorem dX0_behind_3 : decode cX0_behind 3 = .ok (.istore 4, 2) := by decide +kernel
theorem dX0_behind_5 : decode cX0_behind 5 = .ok (.iload 4, 2) := by decide +kernel
theorem dX0_behind_7 : decode cX0_behind 7 = .ok (.aload_n 0, 1) := by decide +kernel
theorem dX0_behind_8 : decode cX0_behind 8 = .ok (.getfield 7, 3) := by decide +kernel
theorem dX0_behind_11 : decode cX0_behind 11 = .ok (.if_icmp .ge 35, 3) := by decide +kernel
theorem dX0_behind_14 : decode cX0_behind 14 = .ok (.iload_n 1, 1) := by decide +kernel
theorem dX0_behind_15 : decode cX0_behind 15 = .ok (.aload_n 0, 1) := by decide +kernel
theorem dX0_behind_16 : decode cX0_behind 16 = .ok (.getfield 13, 3) := by decide +kernel
theorem dX0_behind_19 : decode cX0_behind 19 = .ok (.iconst 2, 1) := by decide +kernel
theorem dX0_behind_20 : decode cX0_behind 20 = .ok (.iload 4, 2) := by decide +kernel
theorem dX0_behind_22 : decode cX0_behind 22 = .ok (.imul, 1) := by decide +kernel
theorem dX0_behind_23 : decode cX0_behind 23 = .ok (.iload_n 2, 1) := by decide +kernel
theorem dX0_behind_24 : decode cX0_behind 24 = .ok (.iadd, 1) := by decide +kernel
theorem dX0_behind_25 : decode cX0_behind 25 = .ok (.iaload, 1) := by decide +kernel
theorem dX0_behind_26 : decode cX0_behind 26 = .ok (.ishr, 1) := by decide +kernel
theorem dX0_behind_27 : decode cX0_behind 27 = .ok (.iconst 1, 1) := by decide +kernel
theorem dX0_behind_28 : decode cX0_behind 28 = .ok (.iand, 1) := by decide +kernel
theorem dX0_behind_29 : decode cX0_behind 29 = .ok (.iconst 1, 1) := by decide +kernel
theorem dX0_behind_30 : decode cX0_behind 30 = .ok (.if_icmp .ne 10, 3) := by decide +kernel
theorem dX0_behind_33 : decode cX0_behind 33 = .ok (.iload_n 3, 1) := by decide +kernel
theorem dX0_behind_34 : decode cX0_behind 34 = .ok (.iconst 1, 1) := by decide +kernel
theorem dX0_behind_35 : decode cX0_behind 35 = .ok (.iload 4, 2) := by decide +kernel
theorem dX0_behind_37 : decode cX0_behind 37 = .ok (.ishl, 1) := by decide +kernel
theorem dX0_behind_38 : decode cX0_behind 38 = .ok (.ior, 1) := by decide +kernel
theorem dX0_behind_39 : decode cX0_behind 39 = .ok (.istore_n 3, 1) := by decide +kernel
theorem dX0_behind_40 : decode cX0_behind 40 = .ok (.iinc 4 1, 3) := by decide +kernel
theorem dX0_behind_43 : decode cX0_behind 43 = .ok (.goto (-38), 3) := by decide +kernel
theorem dX0_behind_46 : decode cX0_behind 46 = .ok (.iload_n 3, 1) := by decide +kernel
theorem dX0_behind_47 : decode cX0_behind 47 = .ok (.ireturn, 1) := by decide +kernel
abbrev cX0_split : ByteArray := prog_1_method_10_code
def yX0_split : MethodName := ⟨RX0, "split", "(II)V"⟩
theorem dX0_split_0 : decode cX0_split 0 = .ok (.aload_n 0, 1) := by decide +kernel
theorem dX0_split_1 : decode cX0_split 1 = .ok (.getfield 23, 3) := by decide +kernel
theorem dX0_split_4 : decode cX0_split 4 = .ok (.iload_n 1, 1) := by decide +kernel
theorem dX0_split_5 : decode cX0_split 5 = .ok (.iaload, 1) := by decide +kernel
theorem dX0_split_6 : decode cX0_split 6 = .ok (.istore_n 3, 1) := by decide +kernel
theorem dX0_split_7 : decode cX0_split 7 = .ok (.iload_n 3, 1) := by decide +kernel
theorem dX0_split_8 : decode cX0_split 8 = .ok (.iload_n 2, 1) := by decide +kernel
theorem dX0_split_9 : decode cX0_split 9 = .ok (.iand, 1) := by decide +kernel
theorem dX0_split_10 : decode cX0_split 10 = .ok (.istore 4, 2) := by decide +kernel
theorem dX0_split_12 : decode cX0_split 12 = .ok (.iload_n 3, 1) := by decide +kernel
theorem dX0_split_13 : decode cX0_split 13 = .ok (.iload_n 2, 1) := by decide +kernel
theorem dX0_split_14 : decode cX0_split 14 = .ok (.iconst (-1), 1) := by decide +kernel
theorem dX0_split_15 : decode cX0_split 15 = .ok (.ixor, 1) := by decide +kernel
theorem dX0_split_16 : decode cX0_split 16 = .ok (.iand, 1) := by decide +kernel
theorem dX0_split_17 : decode cX0_split 17 = .ok (.istore 5, 2) := by decide +kernel
theorem dX0_split_19 : decode cX0_split 19 = .ok (.iload 4, 2) := by decide +kernel
theorem dX0_split_21 : decode cX0_split 21 = .ok (.ifCond .eq 8, 3) := by decide +kernel
theorem dX0_split_24 : decode cX0_split 24 = .ok (.iload 5, 2) := by decide +kernel
theorem dX0_split_26 : decode cX0_split 26 = .ok (.ifCond .ne 4, 3) := by decide +kernel
theorem dX0_split_29 : decode cX0_split 29 = .ok (.return_, 1) := by decide +kernel
theorem dX0_split_30 : decode cX0_split 30 = .ok (.aload_n 0, 1) := by decide +kernel
theorem dX0_split_31 : decode cX0_split 31 = .ok (.getfield 23, 3) := by decide +kernel
theorem dX0_split_34 : decode cX0_split 34 = .ok (.iload_n 1, 1) := by decide +kernel
theorem dX0_split_35 : decode cX0_split 35 = .ok (.iload 4, 2) := by decide +kernel
theorem dX0_split_37 : decode cX0_split 37 = .ok (.iastore, 1) := by decide +kernel
theorem dX0_split_38 : decode cX0_split 38 = .ok (.aload_n 0, 1) := by decide +kernel
theorem dX0_split_39 : decode cX0_split 39 = .ok (.getfield 23, 3) := by decide +kernel
theorem dX0_split_42 : decode cX0_split 42 = .ok (.aload_n 0, 1) := by decide +kernel
theorem dX0_split_43 : decode cX0_split 43 = .ok (.getfield 69, 3) := by decide +kernel
theorem dX0_split_46 : decode cX0_split 46 = .ok (.iload 5, 2) := by decide +kernel
theorem dX0_split_48 : decode cX0_split 48 = .ok (.iastore, 1) := by decide +kernel
theorem dX0_split_49 : decode cX0_split 49 = .ok (.aload_n 0, 1) := by decide +kernel
theorem dX0_split_50 : decode cX0_split 50 = .ok (.dup, 1) := by decide +kernel
theorem dX0_split_51 : decode cX0_split 51 = .ok (.getfield 69, 3) := by decide +kernel
theorem dX0_split_54 : decode cX0_split 54 = .ok (.iconst 1, 1) := by decide +kernel
theorem dX0_split_55 : decode cX0_split 55 = .ok (.iadd, 1) := by decide +kernel
theorem dX0_split_56 : decode cX0_split 56 = .ok (.putfield 69, 3) := by decide +kernel
theorem dX0_split_59 : decode cX0_split 59 = .ok (.iload 4, 2) := by decide +kernel
theorem dX0_split_61 : decode cX0_split 61 = .ok (.invokestatic 72, 3) := by decide +kernel
theorem dX0_split_64 : decode cX0_split 64 = .ok (.iload 5, 2) := by decide +kernel
theorem dX0_split_66 : decode cX0_split 66 = .ok (.invokestatic 72, 3) := by decide +kernel
theorem dX0_split_69 : decode cX0_split 69 = .ok (.if_icmp .gt 8, 3) := by decide +kernel
theorem dX0_split_72 : decode cX0_split 72 = .ok (.iload 4, 2) := by decide +kernel
theorem dX0_split_74 : decode cX0_split 74 = .ok (.goto 5, 3) := by decide +kernel
theorem dX0_split_77 : decode cX0_split 77 = .ok (.iload 5, 2) := by decide +kernel
theorem dX0_split_79 : decode cX0_split 79 = .ok (.istore 6, 2) := by decide +kernel
theorem dX0_split_81 : decode cX0_split 81 = .ok (.iconst 0, 1) := by decide +kernel
theorem dX0_split_82 : decode cX0_split 82 = .ok (.istore 7, 2) := by decide +kernel
theorem dX0_split_84 : decode cX0_split 84 = .ok (.iload 7, 2) := by decide +kernel
theorem dX0_split_86 : decode cX0_split 86 = .ok (.iconst 2, 1) := by decide +kernel
theorem dX0_split_87 : decode cX0_split 87 = .ok (.if_icmp .ge 48, 3) := by decide +kernel
theorem dX0_split_90 : decode cX0_split 90 = .ok (.aload_n 0, 1) := by decide +kernel
theorem dX0_split_91 : decode cX0_split 91 = .ok (.iload_n 3, 1) := by decide +kernel
theorem dX0_split_92 : decode cX0_split 92 = .ok (.iload 7, 2) := by decide +kernel
theorem dX0_split_94 : decode cX0_split 94 = .ok (.invokevirtual 90, 3) := by decide +kernel
theorem dX0_split_97 : decode cX0_split 97 = .ok (.ifCond .eq 6, 3) := by decide +kernel
theorem dX0_split_100 : decode cX0_split 100 = .ok (.goto 29, 3) := by decide +kernel
theorem dX0_split_103 : decode cX0_split 103 = .ok (.aload_n 0, 1) := by decide +kernel
theorem dX0_split_104 : decode cX0_split 104 = .ok (.getfield 26, 3) := by decide +kernel
theorem dX0_split_107 : decode cX0_split 107 = .ok (.aload_n 0, 1) := by decide +kernel
theorem dX0_split_108 : decode cX0_split 108 = .ok (.getfield 66, 3) := by decide +kernel
theorem dX0_split_111 : decode cX0_split 111 = .ok (.iload 6, 2) := by decide +kernel
theorem dX0_split_113 : decode cX0_split 113 = .ok (.iconst 1, 1) := by decide +kernel
theorem dX0_split_114 : decode cX0_split 114 = .ok (.ishl, 1) := by decide +kernel
theorem dX0_split_115 : decode cX0_split 115 = .ok (.iload 7, 2) := by decide +kernel
theorem dX0_split_117 : decode cX0_split 117 = .ok (.ior, 1) := by decide +kernel
theorem dX0_split_118 : decode cX0_split 118 = .ok (.iastore, 1) := by decide +kernel
theorem dX0_split_119 : decode cX0_split 119 = .ok (.aload_n 0, 1) := by decide +kernel
theorem dX0_split_120 : decode cX0_split 120 = .ok (.dup, 1) := by decide +kernel
theorem dX0_split_121 : decode cX0_split 121 = .ok (.getfield 66, 3) := by decide +kernel
theorem dX0_split_124 : decode cX0_split 124 = .ok (.iconst 1, 1) := by decide +kernel
theorem dX0_split_125 : decode cX0_split 125 = .ok (.iadd, 1) := by decide +kernel
theorem dX0_split_126 : decode cX0_split 126 = .ok (.putfield 66, 3) := by decide +kernel
theorem dX0_split_129 : decode cX0_split 129 = .ok (.iinc 7 1, 3) := by decide +kernel
theorem dX0_split_132 : decode cX0_split 132 = .ok (.goto (-48), 3) := by decide +kernel
theorem dX0_split_135 : decode cX0_split 135 = .ok (.aload_n 0, 1) := by decide +kernel
theorem dX0_split_136 : decode cX0_split 136 = .ok (.iload_n 3, 1) := by decide +kernel
theorem dX0_split_137 : decode cX0_split 137 = .ok (.iload 4, 2) := by decide +kernel
theorem dX0_split_139 : decode cX0_split 139 = .ok (.iload 5, 2) := by decide +kernel
theorem dX0_split_141 : decode cX0_split 141 = .ok (.invokevirtual 94, 3) := by decide +kernel
theorem dX0_split_144 : decode cX0_split 144 = .ok (.return_, 1) := by decide +kernel
abbrev cX0_isWaiting : ByteArray := prog_1_method_8_code
def yX0_isWaiting : MethodName := ⟨RX0, "isWaiting", "(II)Z"⟩
theorem dX0_isWaiting_0 : decode cX0_isWaiting 0 = .ok (.iconst 0, 1) := by decide +kernel
theorem dX0_isWaiting_1 : decode cX0_isWaiting 1 = .ok (.istore_n 3, 1) := by decide +kernel
theorem dX0_isWaiting_2 : decode cX0_isWaiting 2 = .ok (.iload_n 3, 1) := by decide +kernel
theorem dX0_isWaiting_3 : decode cX0_isWaiting 3 = .ok (.aload_n 0, 1) := by decide +kernel
theorem dX0_isWaiting_4 : decode cX0_isWaiting 4 = .ok (.getfield 66, 3) := by decide +kernel
theorem dX0_isWaiting_7 : decode cX0_isWaiting 7 = .ok (.if_icmp .ge 25, 3) := by decide +kernel
theorem dX0_isWaiting_10 : decode cX0_isWaiting 10 = .ok (.aload_n 0, 1) := by decide +kernel
theorem dX0_isWaiting_11 : decode cX0_isWaiting 11 = .ok (.getfield 26, 3) := by decide +kernel
theorem dX0_isWaiting_14 : decode cX0_isWaiting 14 = .ok (.iload_n 3, 1) := by decide +kernel
theorem dX0_isWaiting_15 : decode cX0_isWaiting 15 = .ok (.iaload, 1) := by decide +kernel
theorem dX0_isWaiting_16 : decode cX0_isWaiting 16 = .ok (.iload_n 1, 1) := by decide +kernel
theorem dX0_isWaiting_17 : decode cX0_isWaiting 17 = .ok (.iconst 1, 1) := by decide +kernel
theorem dX0_isWaiting_18 : decode cX0_isWaiting 18 = .ok (.ishl, 1) := by decide +kernel
theorem dX0_isWaiting_19 : decode cX0_isWaiting 19 = .ok (.iload_n 2, 1) := by decide +kernel
theorem dX0_isWaiting_20 : decode cX0_isWaiting 20 = .ok (.ior, 1) := by decide +kernel
theorem dX0_isWaiting_21 : decode cX0_isWaiting 21 = .ok (.if_icmp .ne 5, 3) := by decide +kernel
theorem dX0_isWaiting_24 : decode cX0_isWaiting 24 = .ok (.iconst 1, 1) := by decide +kernel
theorem dX0_isWaiting_25 : decode cX0_isWaiting 25 = .ok (.ireturn, 1) := by decide +kernel
theorem dX0_isWaiting_26 : decode cX0_isWaiting 26 = .ok (.iinc 3 1, 3) := by decide +kernel
theorem dX0_isWaiting_29 : decode cX0_isWaiting 29 = .ok (.goto (-27), 3) := by decide +kernel
theorem dX0_isWaiting_32 : decode cX0_isWaiting 32 = .ok (.iconst 0, 1) := by decide +kernel
theorem dX0_isWaiting_33 : decode cX0_isWaiting 33 = .ok (.ireturn, 1) := by decide +kernel
abbrev cX0_splitWaiting : ByteArray := prog_1_method_7_code
def yX0_splitWaiting : MethodName := ⟨RX0, "splitWaiting", "(III)V"⟩
theorem dX0_splitWaiting_0 : decode cX0_splitWaiting 0 = .ok (.aload_n 0, 1) := by decide +kernel
theorem dX0_splitWaiting_1 : decode cX0_splitWaiting 1 = .ok (.getfield 66, 3) := by decide +kernel
theorem dX0_splitWaiting_4 : decode cX0_splitWaiting 4 = .ok (.istore 4, 2) := by decide +kernel
theorem dX0_splitWaiting_6 : decode cX0_splitWaiting 6 = .ok (.iconst 0, 1) := by decide +kernel
theorem dX0_splitWaiting_7 : decode cX0_splitWaiting 7 = .ok (.istore 5, 2) := by decide +kernel
theorem dX0_splitWaiting_9 : decode cX0_splitWaiting 9 = .ok (.iload 5, 2) := by decide +kernel
theorem dX0_splitWaiting_11 : decode cX0_splitWaiting 11 = .ok (.iload 4, 2) := by decide +kernel
theorem dX0_splitWaiting_13 : decode cX0_splitWaiting 13 = .ok (.if_icmp .ge 77, 3) := by decide +kernel
theorem dX0_splitWaiting_16 : decode cX0_splitWaiting 16 = .ok (.aload_n 0, 1) := by decide +kernel
theorem dX0_splitWaiting_17 : decode cX0_splitWaiting 17 = .ok (.getfield 26, 3) := by decide +kernel
theorem dX0_splitWaiting_20 : decode cX0_splitWaiting 20 = .ok (.iload 5, 2) := by decide +kernel
theorem dX0_splitWaiting_22 : decode cX0_splitWaiting 22 = .ok (.iaload, 1) := by decide +kernel
theorem dX0_splitWaiting_23 : decode cX0_splitWaiting 23 = .ok (.iconst 1, 1) := by decide +kernel
theorem dX0_splitWaiting_24 : decode cX0_splitWaiting 24 = .ok (.iushr, 1) := by decide +kernel
theorem dX0_splitWaiting_25 : decode cX0_splitWaiting 25 = .ok (.iload_n 1, 1) := by decide +kernel
theorem dX0_splitWaiting_26 : decode cX0_splitWaiting 26 = .ok (.if_icmp .eq 6, 3) := by decide +kernel
theorem dX0_splitWaiting_29 : decode cX0_splitWaiting 29 = .ok (.goto 55, 3) := by decide +kernel
theorem dX0_splitWaiting_32 : decode cX0_splitWaiting 32 = .ok (.aload_n 0, 1) := by decide +kernel
theorem dX0_splitWaiting_33 : decode cX0_splitWaiting 33 = .ok (.getfield 26, 3) := by decide +kernel
theorem dX0_splitWaiting_36 : decode cX0_splitWaiting 36 = .ok (.aload_n 0, 1) := by decide +kernel
theorem dX0_splitWaiting_37 : decode cX0_splitWaiting 37 = .ok (.getfield 66, 3) := by decide +kernel
theorem dX0_splitWaiting_40 : decode cX0_splitWaiting 40 = .ok (.iload_n 3, 1) := by decide +kernel
theorem dX0_splitWaiting_41 : decode cX0_splitWaiting 41 = .ok (.iconst 1, 1) := by decide +kernel
theorem dX0_splitWaiting_42 : decode cX0_splitWaiting 42 = .ok (.ishl, 1) := by decide +kernel
theorem dX0_splitWaiting_43 : decode cX0_splitWaiting 43 = .ok (.aload_n 0, 1) := by decide +kernel
theorem dX0_splitWaiting_44 : decode cX0_splitWaiting 44 = .ok (.getfield 26, 3) := by decide +kernel
theorem dX0_splitWaiting_47 : decode cX0_splitWaiting 47 = .ok (.iload 5, 2) := by decide +kernel
theorem dX0_splitWaiting_49 : decode cX0_splitWaiting 49 = .ok (.iaload, 1) := by decide +kernel
theorem dX0_splitWaiting_50 : decode cX0_splitWaiting 50 = .ok (.iconst 1, 1) := by decide +kernel
theorem dX0_splitWaiting_51 : decode cX0_splitWaiting 51 = .ok (.iand, 1) := by decide +kernel
theorem dX0_splitWaiting_52 : decode cX0_splitWaiting 52 = .ok (.ior, 1) := by decide +kernel
theorem dX0_splitWaiting_53 : decode cX0_splitWaiting 53 = .ok (.iastore, 1) := by decide +kernel
theorem dX0_splitWaiting_54 : decode cX0_splitWaiting 54 = .ok (.aload_n 0, 1) := by decide +kernel
theorem dX0_splitWaiting_55 : decode cX0_splitWaiting 55 = .ok (.dup, 1) := by decide +kernel
theorem dX0_splitWaiting_56 : decode cX0_splitWaiting 56 = .ok (.getfield 66, 3) := by decide +kernel
theorem dX0_splitWaiting_59 : decode cX0_splitWaiting 59 = .ok (.iconst 1, 1) := by decide +kernel
theorem dX0_splitWaiting_60 : decode cX0_splitWaiting 60 = .ok (.iadd, 1) := by decide +kernel
theorem dX0_splitWaiting_61 : decode cX0_splitWaiting 61 = .ok (.putfield 66, 3) := by decide +kernel
theorem dX0_splitWaiting_64 : decode cX0_splitWaiting 64 = .ok (.aload_n 0, 1) := by decide +kernel
theorem dX0_splitWaiting_65 : decode cX0_splitWaiting 65 = .ok (.getfield 26, 3) := by decide +kernel
theorem dX0_splitWaiting_68 : decode cX0_splitWaiting 68 = .ok (.iload 5, 2) := by decide +kernel
theorem dX0_splitWaiting_70 : decode cX0_splitWaiting 70 = .ok (.iload_n 2, 1) := by decide +kernel
theorem dX0_splitWaiting_71 : decode cX0_splitWaiting 71 = .ok (.iconst 1, 1) := by decide +kernel
theorem dX0_splitWaiting_72 : decode cX0_splitWaiting 72 = .ok (.ishl, 1) := by decide +kernel
theorem dX0_splitWaiting_73 : decode cX0_splitWaiting 73 = .ok (.aload_n 0, 1) := by decide +kernel
theorem dX0_splitWaiting_74 : decode cX0_splitWaiting 74 = .ok (.getfield 26, 3) := by decide +kernel
theorem dX0_splitWaiting_77 : decode cX0_splitWaiting 77 = .ok (.iload 5, 2) := by decide +kernel
theorem dX0_splitWaiting_79 : decode cX0_splitWaiting 79 = .ok (.iaload, 1) := by decide +kernel
theorem dX0_splitWaiting_80 : decode cX0_splitWaiting 80 = .ok (.iconst 1, 1) := by decide +kernel
theorem dX0_splitWaiting_81 : decode cX0_splitWaiting 81 = .ok (.iand, 1) := by decide +kernel
theorem dX0_splitWaiting_82 : decode cX0_splitWaiting 82 = .ok (.ior, 1) := by decide +kernel
theorem dX0_splitWaiting_83 : decode cX0_splitWaiting 83 = .ok (.iastore, 1) := by decide +kernel
theorem dX0_splitWaiting_84 : decode cX0_splitWaiting 84 = .ok (.iinc 5 1, 3) := by decide +kernel
theorem dX0_splitWaiting_87 : decode cX0_splitWaiting 87 = .ok (.goto (-78), 3) := by decide +kernel
theorem dX0_splitWaiting_90 : decode cX0_splitWaiting 90 = .ok (.return_, 1) := by decide +kernel
end
section
set_option maxRecDepth 100000
abbrev cX0_take : ByteArray := prog_1_method_11_code
def yX0_take : MethodName := ⟨RX0, "take", "()V"⟩
theorem dX0_take_0 : decode cX0_take 0 = .ok (.aload_n 0, 1) := by decide +kernel
theorem dX0_take_1 : decode cX0_take 1 = .ok (.aload_n 0, 1) := by decide +kernel
theorem dX0_take_2 : decode cX0_take 2 = .ok (.getfield 69, 3) := by decide +kernel
theorem dX0_take_5 : decode cX0_take 5 = .ok (.putfield 98, 3) := by decide +kernel
theorem dX0_take_8 : decode cX0_take 8 = .ok (.aload_n 0, 1) := by decide +kernel
theorem dX0_take_9 : decode cX0_take 9 = .ok (.iconst 0, 1) := by decide +kernel
theorem dX0_take_10 : decode cX0_take 10 = .ok (.putfield 101, 3) := by decide +kernel
theorem dX0_take_13 : decode cX0_take 13 = .ok (.iconst 0, 1) := by decide +kernel
theorem dX0_take_14 : decode cX0_take 14 = .ok (.istore_n 1, 1) := by decide +kernel
theorem dX0_take_15 : decode cX0_take 15 = .ok (.iload_n 1, 1) := by decide +kernel
theorem dX0_take_16 : decode cX0_take 16 = .ok (.aload_n 0, 1) := by decide +kernel
theorem dX0_take_17 : decode cX0_take 17 = .ok (.getfield 69, 3) := by decide +kernel
theorem dX0_take_20 : decode cX0_take 20 = .ok (.if_icmp .ge 72, 3) := by decide +kernel
theorem dX0_take_23 : decode cX0_take 23 = .ok (.iconst 0, 1) := by decide +kernel
theorem dX0_take_24 : decode cX0_take 24 = .ok (.istore_n 2, 1) := by decide +kernel
theorem dX0_take_25 : decode cX0_take 25 = .ok (.iload_n 2, 1) := by decide +kernel
theorem dX0_take_26 : decode cX0_take 26 = .ok (.aload_n 0, 1) := by decide +kernel
theorem dX0_take_27 : decode cX0_take 27 = .ok (.getfield 7, 3) := by decide +kernel
theorem dX0_take_30 : decode cX0_take 30 = .ok (.if_icmp .ge 30, 3) := by decide +kernel
theorem dX0_take_33 : decode cX0_take 33 = .ok (.aload_n 0, 1) := by decide +kernel
theorem dX0_take_34 : decode cX0_take 34 = .ok (.getfield 23, 3) := by decide +kernel
theorem dX0_take_37 : decode cX0_take 37 = .ok (.iload_n 1, 1) := by decide +kernel
theorem dX0_take_38 : decode cX0_take 38 = .ok (.iaload, 1) := by decide +kernel
theorem dX0_take_39 : decode cX0_take 39 = .ok (.iload_n 2, 1) := by decide +kernel
theorem dX0_take_40 : decode cX0_take 40 = .ok (.ishr, 1) := by decide +kernel
theorem dX0_take_41 : decode cX0_take 41 = .ok (.iconst 1, 1) := by decide +kernel
theorem dX0_take_42 : decode cX0_take 42 = .ok (.iand, 1) := by decide +kernel
theorem dX0_take_43 : decode cX0_take 43 = .ok (.iconst 1, 1) := by decide +kernel
theorem dX0_take_44 : decode cX0_take 44 = .ok (.if_icmp .ne 10, 3) := by decide +kernel
theorem dX0_take_47 : decode cX0_take 47 = .ok (.aload_n 0, 1) := by decide +kernel
theorem dX0_take_48 : decode cX0_take 48 = .ok (.getfield 17, 3) := by decide +kernel
theorem dX0_take_51 : decode cX0_take 51 = .ok (.iload_n 2, 1) := by decide +kernel
theorem dX0_take_52 : decode cX0_take 52 = .ok (.iload_n 1, 1) := by decide +kernel
theorem dX0_take_53 : decode cX0_take 53 = .ok (.iastore, 1) := by decide +kernel
theorem dX0_take_54 : decode cX0_take 54 = .ok (.iinc 2 1, 3) := by decide +kernel
theorem dX0_take_57 : decode cX0_take 57 = .ok (.goto (-32), 3) := by decide +kernel
theorem dX0_take_60 : decode cX0_take 60 = .ok (.aload_n 0, 1) := by decide +kernel
theorem dX0_take_61 : decode cX0_take 61 = .ok (.getfield 23, 3) := by decide +kernel
theorem dX0_take_64 : decode cX0_take 64 = .ok (.iload_n 1, 1) := by decide +kernel
theorem dX0_take_65 : decode cX0_take 65 = .ok (.iaload, 1) := by decide +kernel
theorem dX0_take_66 : decode cX0_take 66 = .ok (.aload_n 0, 1) := by decide +kernel
theorem dX0_take_67 : decode cX0_take 67 = .ok (.getfield 46, 3) := by decide +kernel
theorem dX0_take_70 : decode cX0_take 70 = .ok (.iand, 1) := by decide +kernel
theorem dX0_take_71 : decode cX0_take 71 = .ok (.ifCond .eq 15, 3) := by decide +kernel
theorem dX0_take_74 : decode cX0_take 74 = .ok (.aload_n 0, 1) := by decide +kernel
theorem dX0_take_75 : decode cX0_take 75 = .ok (.dup, 1) := by decide +kernel
theorem dX0_take_76 : decode cX0_take 76 = .ok (.getfield 101, 3) := by decide +kernel
theorem dX0_take_79 : decode cX0_take 79 = .ok (.iconst 1, 1) := by decide +kernel
theorem dX0_take_80 : decode cX0_take 80 = .ok (.iload_n 1, 1) := by decide +kernel
theorem dX0_take_81 : decode cX0_take 81 = .ok (.ishl, 1) := by decide +kernel
theorem dX0_take_82 : decode cX0_take 82 = .ok (.ior, 1) := by decide +kernel
theorem dX0_take_83 : decode cX0_take 83 = .ok (.putfield 101, 3) := by decide +kernel
theorem dX0_take_86 : decode cX0_take 86 = .ok (.iinc 1 1, 3) := by decide +kernel
theorem dX0_take_89 : decode cX0_take 89 = .ok (.goto (-74), 3) := by decide +kernel
theorem dX0_take_92 : decode cX0_take 92 = .ok (.iconst 0, 1) := by decide +kernel
theorem dX0_take_93 : decode cX0_take 93 = .ok (.istore_n 1, 1) := by decide +kernel
theorem dX0_take_94 : decode cX0_take 94 = .ok (.iload_n 1, 1) := by decide +kernel
theorem dX0_take_95 : decode cX0_take 95 = .ok (.aload_n 0, 1) := by decide +kernel
theorem dX0_take_96 : decode cX0_take 96 = .ok (.getfield 7, 3) := by decide +kernel
theorem dX0_take_99 : decode cX0_take 99 = .ok (.if_icmp .ge 52, 3) := by decide +kernel
theorem dX0_take_102 : decode cX0_take 102 = .ok (.iconst 0, 1) := by decide +kernel
theorem dX0_take_103 : decode cX0_take 103 = .ok (.istore_n 2, 1) := by decide +kernel
theorem dX0_take_104 : decode cX0_take 104 = .ok (.iload_n 2, 1) := by decide +kernel
theorem dX0_take_105 : decode cX0_take 105 = .ok (.iconst 2, 1) := by decide +kernel
theorem dX0_take_106 : decode cX0_take 106 = .ok (.if_icmp .ge 39, 3) := by decide +kernel
theorem dX0_take_109 : decode cX0_take 109 = .ok (.aload_n 0, 1) := by decide +kernel
theorem dX0_take_110 : decode cX0_take 110 = .ok (.getfield 20, 3) := by decide +kernel
theorem dX0_take_113 : decode cX0_take 113 = .ok (.iconst 2, 1) := by decide +kernel
theorem dX0_take_114 : decode cX0_take 114 = .ok (.aload_n 0, 1) := by decide +kernel
theorem dX0_take_115 : decode cX0_take 115 = .ok (.getfield 17, 3) := by decide +kernel
theorem dX0_take_118 : decode cX0_take 118 = .ok (.iload_n 1, 1) := by decide +kernel
theorem dX0_take_119 : decode cX0_take 119 = .ok (.iaload, 1) := by decide +kernel
theorem dX0_take_120 : decode cX0_take 120 = .ok (.imul, 1) := by decide +kernel
theorem dX0_take_121 : decode cX0_take 121 = .ok (.iload_n 2, 1) := by decide +kernel
theorem dX0_take_122 : decode cX0_take 122 = .ok (.iadd, 1) := by decide +kernel
theorem dX0_take_123 : decode cX0_take 123 = .ok (.aload_n 0, 1) := by decide +kernel
theorem dX0_take_124 : decode cX0_take 124 = .ok (.getfield 17, 3) := by decide +kernel
theorem dX0_take_127 : decode cX0_take 127 = .ok (.aload_n 0, 1) := by decide +kernel
theorem dX0_take_128 : decode cX0_take 128 = .ok (.getfield 13, 3) := by decide +kernel
theorem dX0_take_131 : decode cX0_take 131 = .ok (.iconst 2, 1) := by decide +kernel
theorem dX0_take_132 : decode cX0_take 132 = .ok (.iload_n 1, 1) := by decide +kernel
theorem dX0_take_133 : decode cX0_take 133 = .ok (.imul, 1) := by decide +kernel
theorem dX0_take_134 : decode cX0_take 134 = .ok (.iload_n 2, 1) := by decide +kernel
theorem dX0_take_135 : decode cX0_take 135 = .ok (.iadd, 1) := by decide +kernel
theorem dX0_take_136 : decode cX0_take 136 = .ok (.iaload, 1) := by decide +kernel
theorem dX0_take_137 : decode cX0_take 137 = .ok (.iaload, 1) := by decide +kernel
theorem dX0_take_138 : decode cX0_take 138 = .ok (.iastore, 1) := by decide +kernel
theorem dX0_take_139 : decode cX0_take 139 = .ok (.iinc 2 1, 3) := by decide +kernel
theorem dX0_take_142 : decode cX0_take 142 = .ok (.goto (-38), 3) := by decide +kernel
theorem dX0_take_145 : decode cX0_take 145 = .ok (.iinc 1 1, 3) := by decide +kernel
theorem dX0_take_148 : decode cX0_take 148 = .ok (.goto (-54), 3) := by decide +kernel
theorem dX0_take_151 : decode cX0_take 151 = .ok (.return_, 1) := by decide +kernel
abbrev cX0_same : ByteArray := prog_1_method_14_code
def yX0_same : MethodName := ⟨RX0, "same", "(II)Z"⟩
theorem dX0_same_0 : decode cX0_same 0 = .ok (.aload_n 0, 1) := by decide +kernel
theorem dX0_same_1 : decode cX0_same 1 = .ok (.iload_n 1, 1) := by decide +kernel
theorem dX0_same_2 : decode cX0_same 2 = .ok (.invokevirtual 107, 3) := by decide +kernel
theorem dX0_same_5 : decode cX0_same 5 = .ok (.aload_n 0, 1) := by decide +kernel
theorem dX0_same_6 : decode cX0_same 6 = .ok (.iload_n 2, 1) := by decide +kernel
theorem dX0_same_7 : decode cX0_same 7 = .ok (.invokevirtual 107, 3) := by decide +kernel
theorem dX0_same_10 : decode cX0_same 10 = .ok (.if_icmp .ne 7, 3) := by decide +kernel
theorem dX0_same_13 : decode cX0_same 13 = .ok (.iconst 1, 1) := by decide +kernel
theorem dX0_same_14 : decode cX0_same 14 = .ok (.goto 4, 3) := by decide +kernel
theorem dX0_same_17 : decode cX0_same 17 = .ok (.iconst 0, 1) := by decide +kernel
theorem dX0_same_18 : decode cX0_same 18 = .ok (.ireturn, 1) := by decide +kernel
abbrev cX0_kinds : ByteArray := prog_1_method_15_code
def yX0_kinds : MethodName := ⟨RX0, "kinds", "()I"⟩
theorem dX0_kinds_0 : decode cX0_kinds 0 = .ok (.aload_n 0, 1) := by decide +kernel
theorem dX0_kinds_1 : decode cX0_kinds 1 = .ok (.invokevirtual 104, 3) := by decide +kernel
theorem dX0_kinds_4 : decode cX0_kinds 4 = .ok (.aload_n 0, 1) := by decide +kernel
theorem dX0_kinds_5 : decode cX0_kinds 5 = .ok (.getfield 98, 3) := by decide +kernel
theorem dX0_kinds_8 : decode cX0_kinds 8 = .ok (.ireturn, 1) := by decide +kernel
abbrev cX0_needed : ByteArray := prog_1_method_16_code
def yX0_needed : MethodName := ⟨RX0, "needed", "(I)I"⟩
theorem dX0_needed_0 : decode cX0_needed 0 = .ok (.iconst 1, 1) := by decide +kernel
theorem dX0_needed_1 : decode cX0_needed 1 = .ok (.aload_n 0, 1) := by decide +kernel
theorem dX0_needed_2 : decode cX0_needed 2 = .ok (.iload_n 1, 1) := by decide +kernel
theorem dX0_needed_3 : decode cX0_needed 3 = .ok (.invokevirtual 107, 3) := by decide +kernel
theorem dX0_needed_6 : decode cX0_needed 6 = .ok (.ishl, 1) := by decide +kernel
theorem dX0_needed_7 : decode cX0_needed 7 = .ok (.istore_n 2, 1) := by decide +kernel
theorem dX0_needed_8 : decode cX0_needed 8 = .ok (.iconst 0, 1) := by decide +kernel
theorem dX0_needed_9 : decode cX0_needed 9 = .ok (.istore_n 3, 1) := by decide +kernel
theorem dX0_needed_10 : decode cX0_needed 10 = .ok (.iload_n 2, 1) := by decide +kernel
theorem dX0_needed_11 : decode cX0_needed 11 = .ok (.iload_n 3, 1) := by decide +kernel
theorem dX0_needed_12 : decode cX0_needed 12 = .ok (.if_icmp .eq 66, 3) := by decide +kernel
theorem dX0_needed_15 : decode cX0_needed 15 = .ok (.iload_n 2, 1) := by decide +kernel
theorem dX0_needed_16 : decode cX0_needed 16 = .ok (.istore_n 3, 1) := by decide +kernel
theorem dX0_needed_17 : decode cX0_needed 17 = .ok (.iconst 0, 1) := by decide +kernel
theorem dX0_needed_18 : decode cX0_needed 18 = .ok (.istore 4, 2) := by decide +kernel
theorem dX0_needed_20 : decode cX0_needed 20 = .ok (.iload 4, 2) := by decide +kernel
theorem dX0_needed_22 : decode cX0_needed 22 = .ok (.aload_n 0, 1) := by decide +kernel
theorem dX0_needed_23 : decode cX0_needed 23 = .ok (.getfield 98, 3) := by decide +kernel
theorem dX0_needed_26 : decode cX0_needed 26 = .ok (.if_icmp .ge 49, 3) := by decide +kernel
theorem dX0_needed_29 : decode cX0_needed 29 = .ok (.iload_n 3, 1) := by decide +kernel
theorem dX0_needed_30 : decode cX0_needed 30 = .ok (.iload 4, 2) := by decide +kernel
theorem dX0_needed_32 : decode cX0_needed 32 = .ok (.ishr, 1) := by decide +kernel
theorem dX0_needed_33 : decode cX0_needed 33 = .ok (.iconst 1, 1) := by decide +kernel
theorem dX0_needed_34 : decode cX0_needed 34 = .ok (.iand, 1) := by decide +kernel
theorem dX0_needed_35 : decode cX0_needed 35 = .ok (.ifCond .ne 6, 3) := by decide +kernel
theorem dX0_needed_38 : decode cX0_needed 38 = .ok (.goto 31, 3) := by decide +kernel
theorem dX0_needed_41 : decode cX0_needed 41 = .ok (.iload_n 2, 1) := by decide +kernel
theorem dX0_needed_42 : decode cX0_needed 42 = .ok (.iconst 1, 1) := by decide +kernel
theorem dX0_needed_43 : decode cX0_needed 43 = .ok (.aload_n 0, 1) := by decide +kernel
theorem dX0_needed_44 : decode cX0_needed 44 = .ok (.getfield 20, 3) := by decide +kernel
theorem dX0_needed_47 : decode cX0_needed 47 = .ok (.iconst 2, 1) := by decide +kernel
theorem dX0_needed_48 : decode cX0_needed 48 = .ok (.iload 4, 2) := by decide +kernel
theorem dX0_needed_50 : decode cX0_needed 50 = .ok (.imul, 1) := by decide +kernel
theorem dX0_needed_51 : decode cX0_needed 51 = .ok (.iaload, 1) := by decide +kernel
theorem dX0_needed_52 : decode cX0_needed 52 = .ok (.ishl, 1) := by decide +kernel
theorem dX0_needed_53 : decode cX0_needed 53 = .ok (.iconst 1, 1) := by decide +kernel
theorem dX0_needed_54 : decode cX0_needed 54 = .ok (.aload_n 0, 1) := by decide +kernel
theorem dX0_needed_55 : decode cX0_needed 55 = .ok (.getfield 20, 3) := by decide +kernel
theorem dX0_needed_58 : decode cX0_needed 58 = .ok (.iconst 2, 1) := by decide +kernel
theorem dX0_needed_59 : decode cX0_needed 59 = .ok (.iload 4, 2) := by decide +kernel
theorem dX0_needed_61 : decode cX0_needed 61 = .ok (.imul, 1) := by decide +kernel
theorem dX0_needed_62 : decode cX0_needed 62 = .ok (.iconst 1, 1) := by decide +kernel
theorem dX0_needed_63 : decode cX0_needed 63 = .ok (.iadd, 1) := by decide +kernel
theorem dX0_needed_64 : decode cX0_needed 64 = .ok (.iaload, 1) := by decide +kernel
theorem dX0_needed_65 : decode cX0_needed 65 = .ok (.ishl, 1) := by decide +kernel
theorem dX0_needed_66 : decode cX0_needed 66 = .ok (.ior, 1) := by decide +kernel
theorem dX0_needed_67 : decode cX0_needed 67 = .ok (.ior, 1) := by decide +kernel
theorem dX0_needed_68 : decode cX0_needed 68 = .ok (.istore_n 2, 1) := by decide +kernel
theorem dX0_needed_69 : decode cX0_needed 69 = .ok (.iinc 4 1, 3) := by decide +kernel
theorem dX0_needed_72 : decode cX0_needed 72 = .ok (.goto (-52), 3) := by decide +kernel
theorem dX0_needed_75 : decode cX0_needed 75 = .ok (.goto (-65), 3) := by decide +kernel
theorem dX0_needed_78 : decode cX0_needed 78 = .ok (.iload_n 2, 1) := by decide +kernel
theorem dX0_needed_79 : decode cX0_needed 79 = .ok (.invokestatic 72, 3) := by decide +kernel
theorem dX0_needed_82 : decode cX0_needed 82 = .ok (.ireturn, 1) := by decide +kernel
abbrev cX0_witness : ByteArray := prog_1_method_17_code
def yX0_witness : MethodName := ⟨RX0, "witness", "(II)I"⟩
theorem dX0_witness_0 : decode cX0_witness 0 = .ok (.aload_n 0, 1) := by decide +kernel
theorem dX0_witness_1 : decode cX0_witness 1 = .ok (.iload_n 1, 1) := by decide +kernel
theorem dX0_witness_2 : decode cX0_witness 2 = .ok (.invokevirtual 107, 3) := by decide +kernel
theorem dX0_witness_5 : decode cX0_witness 5 = .ok (.istore_n 3, 1) := by decide +kernel
theorem dX0_witness_6 : decode cX0_witness 6 = .ok (.aload_n 0, 1) := by decide +kernel
theorem dX0_witness_7 : decode cX0_witness 7 = .ok (.iload_n 2, 1) := by decide +kernel
theorem dX0_witness_8 : decode cX0_witness 8 = .ok (.invokevirtual 107, 3) := by decide +kernel
theorem dX0_witness_11 : decode cX0_witness 11 = .ok (.istore 4, 2) := by decide +kernel
theorem dX0_witness_13 : decode cX0_witness 13 = .ok (.iconst 1, 1) := by decide +kernel
theorem dX0_witness_14 : decode cX0_witness 14 = .ok (.istore 5, 2) := by decide +kernel
theorem dX0_witness_16 : decode cX0_witness 16 = .ok (.iload_n 3, 1) := by decide +kernel
theorem dX0_witness_17 : decode cX0_witness 17 = .ok (.iload 4, 2) := by decide +kernel
theorem dX0_witness_19 : decode cX0_witness 19 = .ok (.if_icmp .ne 5, 3) := by decide +kernel
theorem dX0_witness_22 : decode cX0_witness 22 = .ok (.iconst 0, 1) := by decide +kernel
theorem dX0_witness_23 : decode cX0_witness 23 = .ok (.ireturn, 1) := by decide +kernel
theorem dX0_witness_24 : decode cX0_witness 24 = .ok (.aload_n 0, 1) := by decide +kernel
theorem dX0_witness_25 : decode cX0_witness 25 = .ok (.getfield 35, 3) := by decide +kernel
theorem dX0_witness_28 : decode cX0_witness 28 = .ok (.iconst 0, 1) := by decide +kernel
theorem dX0_witness_29 : decode cX0_witness 29 = .ok (.invokestatic 110, 3) := by decide +kernel
theorem dX0_witness_32 : decode cX0_witness 32 = .ok (.aload_n 0, 1) := by decide +kernel
theorem dX0_witness_33 : decode cX0_witness 33 = .ok (.getfield 29, 3) := by decide +kernel
theorem dX0_witness_36 : decode cX0_witness 36 = .ok (.iconst 0, 1) := by decide +kernel
theorem dX0_witness_37 : decode cX0_witness 37 = .ok (.bipush 16, 2) := by decide +kernel
theorem dX0_witness_39 : decode cX0_witness 39 = .ok (.iload_n 3, 1) := by decide +kernel
theorem dX0_witness_40 : decode cX0_witness 40 = .ok (.imul, 1) := by decide +kernel
theorem dX0_witness_41 : decode cX0_witness 41 = .ok (.iload 4, 2) := by decide +kernel
theorem dX0_witness_43 : decode cX0_witness 43 = .ok (.iadd, 1) := by decide +kernel
theorem dX0_witness_44 : decode cX0_witness 44 = .ok (.iastore, 1) := by decide +kernel
theorem dX0_witness_45 : decode cX0_witness 45 = .ok (.aload_n 0, 1) := by decide +kernel
theorem dX0_witness_46 : decode cX0_witness 46 = .ok (.getfield 32, 3) := by decide +kernel
theorem dX0_witness_49 : decode cX0_witness 49 = .ok (.iconst 0, 1) := by decide +kernel
theorem dX0_witness_50 : decode cX0_witness 50 = .ok (.iconst 1, 1) := by decide +kernel
theorem dX0_witness_51 : decode cX0_witness 51 = .ok (.iastore, 1) := by decide +kernel
theorem dX0_witness_52 : decode cX0_witness 52 = .ok (.aload_n 0, 1) := by decide +kernel
theorem dX0_witness_53 : decode cX0_witness 53 = .ok (.getfield 35, 3) := by decide +kernel
theorem dX0_witness_56 : decode cX0_witness 56 = .ok (.aload_n 0, 1) := by decide +kernel
theorem dX0_witness_57 : decode cX0_witness 57 = .ok (.getfield 29, 3) := by decide +kernel
theorem dX0_witness_60 : decode cX0_witness 60 = .ok (.iconst 0, 1) := by decide +kernel
theorem dX0_witness_61 : decode cX0_witness 61 = .ok (.iaload, 1) := by decide +kernel
theorem dX0_witness_62 : decode cX0_witness 62 = .ok (.iconst 1, 1) := by decide +kernel
theorem dX0_witness_63 : decode cX0_witness 63 = .ok (.bastore, 1) := by decide +kernel
theorem dX0_witness_64 : decode cX0_witness 64 = .ok (.iconst 0, 1) := by decide +kernel
theorem dX0_witness_65 : decode cX0_witness 65 = .ok (.istore 6, 2) := by decide +kernel
theorem dX0_witness_67 : decode cX0_witness 67 = .ok (.iload 6, 2) := by decide +kernel
theorem dX0_witness_69 : decode cX0_witness 69 = .ok (.iload 5, 2) := by decide +kernel
theorem dX0_witness_71 : decode cX0_witness 71 = .ok (.if_icmp .ge 159, 3) := by decide +kernel
theorem dX0_witness_74 : decode cX0_witness 74 = .ok (.aload_n 0, 1) := by decide +kernel
theorem dX0_witness_75 : decode cX0_witness 75 = .ok (.getfield 29, 3) := by decide +kernel
theorem dX0_witness_78 : decode cX0_witness 78 = .ok (.iload 6, 2) := by decide +kernel
theorem dX0_witness_80 : decode cX0_witness 80 = .ok (.iaload, 1) := by decide +kernel
theorem dX0_witness_81 : decode cX0_witness 81 = .ok (.bipush 16, 2) := by decide +kernel
theorem dX0_witness_83 : decode cX0_witness 83 = .ok (.idiv, 1) := by decide +kernel
theorem dX0_witness_84 : decode cX0_witness 84 = .ok (.istore 7, 2) := by decide +kernel
theorem dX0_witness_86 : decode cX0_witness 86 = .ok (.aload_n 0, 1) := by decide +kernel
theorem dX0_witness_87 : decode cX0_witness 87 = .ok (.getfield 29, 3) := by decide +kernel
theorem dX0_witness_90 : decode cX0_witness 90 = .ok (.iload 6, 2) := by decide +kernel
theorem dX0_witness_92 : decode cX0_witness 92 = .ok (.iaload, 1) := by decide +kernel
theorem dX0_witness_93 : decode cX0_witness 93 = .ok (.bipush 16, 2) := by decide +kernel
theorem dX0_witness_95 : decode cX0_witness 95 = .ok (.irem, 1) := by decide +kernel
theorem dX0_witness_96 : decode cX0_witness 96 = .ok (.istore 8, 2) := by decide +kernel
theorem dX0_witness_98 : decode cX0_witness 98 = .ok (.aload_n 0, 1) := by decide +kernel
theorem dX0_witness_99 : decode cX0_witness 99 = .ok (.getfield 101, 3) := by decide +kernel
theorem dX0_witness_102 : decode cX0_witness 102 = .ok (.iload 7, 2) := by decide +kernel
theorem dX0_witness_104 : decode cX0_witness 104 = .ok (.ishr, 1) := by decide +kernel
theorem dX0_witness_105 : decode cX0_witness 105 = .ok (.iconst 1, 1) := by decide +kernel
theorem dX0_witness_106 : decode cX0_witness 106 = .ok (.iand, 1) := by decide +kernel
theorem dX0_witness_107 : decode cX0_witness 107 = .ok (.aload_n 0, 1) := by decide +kernel
theorem dX0_witness_108 : decode cX0_witness 108 = .ok (.getfield 101, 3) := by decide +kernel
theorem dX0_witness_111 : decode cX0_witness 111 = .ok (.iload 8, 2) := by decide +kernel
theorem dX0_witness_113 : decode cX0_witness 113 = .ok (.ishr, 1) := by decide +kernel
theorem dX0_witness_114 : decode cX0_witness 114 = .ok (.iconst 1, 1) := by decide +kernel
theorem dX0_witness_115 : decode cX0_witness 115 = .ok (.iand, 1) := by decide +kernel
theorem dX0_witness_116 : decode cX0_witness 116 = .ok (.if_icmp .eq 11, 3) := by decide +kernel
theorem dX0_witness_119 : decode cX0_witness 119 = .ok (.aload_n 0, 1) := by decide +kernel
theorem dX0_witness_120 : decode cX0_witness 120 = .ok (.getfield 32, 3) := by decide +kernel
theorem dX0_witness_123 : decode cX0_witness 123 = .ok (.iload 6, 2) := by decide +kernel
theorem dX0_witness_125 : decode cX0_witness 125 = .ok (.iaload, 1) := by decide +kernel
theorem dX0_witness_126 : decode cX0_witness 126 = .ok (.ireturn, 1) := by decide +kernel
theorem dX0_witness_127 : decode cX0_witness 127 = .ok (.iconst 0, 1) := by decide +kernel
theorem dX0_witness_128 : decode cX0_witness 128 = .ok (.istore 9, 2) := by decide +kernel
theorem dX0_witness_130 : decode cX0_witness 130 = .ok (.iload 9, 2) := by decide +kernel
theorem dX0_witness_132 : decode cX0_witness 132 = .ok (.iconst 2, 1) := by decide +kernel
theorem dX0_witness_133 : decode cX0_witness 133 = .ok (.if_icmp .ge 91, 3) := by decide +kernel
theorem dX0_witness_136 : decode cX0_witness 136 = .ok (.bipush 16, 2) := by decide +kernel
theorem dX0_witness_138 : decode cX0_witness 138 = .ok (.aload_n 0, 1) := by decide +kernel
theorem dX0_witness_139 : decode cX0_witness 139 = .ok (.getfield 20, 3) := by decide +kernel
theorem dX0_witness_142 : decode cX0_witness 142 = .ok (.iconst 2, 1) := by decide +kernel
theorem dX0_witness_143 : decode cX0_witness 143 = .ok (.iload 7, 2) := by decide +kernel
theorem dX0_witness_145 : decode cX0_witness 145 = .ok (.imul, 1) := by decide +kernel
theorem dX0_witness_146 : decode cX0_witness 146 = .ok (.iload 9, 2) := by decide +kernel
theorem dX0_witness_148 : decode cX0_witness 148 = .ok (.iadd, 1) := by decide +kernel
theorem dX0_witness_149 : decode cX0_witness 149 = .ok (.iaload, 1) := by decide +kernel
theorem dX0_witness_150 : decode cX0_witness 150 = .ok (.imul, 1) := by decide +kernel
theorem dX0_witness_151 : decode cX0_witness 151 = .ok (.aload_n 0, 1) := by decide +kernel
theorem dX0_witness_152 : decode cX0_witness 152 = .ok (.getfield 20, 3) := by decide +kernel
theorem dX0_witness_155 : decode cX0_witness 155 = .ok (.iconst 2, 1) := by decide +kernel
theorem dX0_witness_156 : decode cX0_witness 156 = .ok (.iload 8, 2) := by decide +kernel
theorem dX0_witness_158 : decode cX0_witness 158 = .ok (.imul, 1) := by decide +kernel
theorem dX0_witness_159 : decode cX0_witness 159 = .ok (.iload 9, 2) := by decide +kernel
theorem dX0_witness_161 : decode cX0_witness 161 = .ok (.iadd, 1) := by decide +kernel
theorem dX0_witness_162 : decode cX0_witness 162 = .ok (.iaload, 1) := by decide +kernel
theorem dX0_witness_163 : decode cX0_witness 163 = .ok (.iadd, 1) := by decide +kernel
theorem dX0_witness_164 : decode cX0_witness 164 = .ok (.istore 10, 2) := by decide +kernel
theorem dX0_witness_166 : decode cX0_witness 166 = .ok (.aload_n 0, 1) := by decide +kernel
theorem dX0_witness_167 : decode cX0_witness 167 = .ok (.getfield 35, 3) := by decide +kernel
theorem dX0_witness_170 : decode cX0_witness 170 = .ok (.iload 10, 2) := by decide +kernel
theorem dX0_witness_172 : decode cX0_witness 172 = .ok (.baload, 1) := by decide +kernel
theorem dX0_witness_173 : decode cX0_witness 173 = .ok (.ifCond .eq 6, 3) := by decide +kernel
theorem dX0_witness_176 : decode cX0_witness 176 = .ok (.goto 42, 3) := by decide +kernel
theorem dX0_witness_179 : decode cX0_witness 179 = .ok (.aload_n 0, 1) := by decide +kernel
theorem dX0_witness_180 : decode cX0_witness 180 = .ok (.getfield 35, 3) := by decide +kernel
theorem dX0_witness_183 : decode cX0_witness 183 = .ok (.iload 10, 2) := by decide +kernel
theorem dX0_witness_185 : decode cX0_witness 185 = .ok (.iconst 1, 1) := by decide +kernel
theorem dX0_witness_186 : decode cX0_witness 186 = .ok (.bastore, 1) := by decide +kernel
theorem dX0_witness_187 : decode cX0_witness 187 = .ok (.aload_n 0, 1) := by decide +kernel
theorem dX0_witness_188 : decode cX0_witness 188 = .ok (.getfield 29, 3) := by decide +kernel
theorem dX0_witness_191 : decode cX0_witness 191 = .ok (.iload 5, 2) := by decide +kernel
theorem dX0_witness_193 : decode cX0_witness 193 = .ok (.iload 10, 2) := by decide +kernel
theorem dX0_witness_195 : decode cX0_witness 195 = .ok (.iastore, 1) := by decide +kernel
theorem dX0_witness_196 : decode cX0_witness 196 = .ok (.aload_n 0, 1) := by decide +kernel
theorem dX0_witness_197 : decode cX0_witness 197 = .ok (.getfield 32, 3) := by decide +kernel
theorem dX0_witness_200 : decode cX0_witness 200 = .ok (.iload 5, 2) := by decide +kernel
theorem dX0_witness_202 : decode cX0_witness 202 = .ok (.iconst 2, 1) := by decide +kernel
theorem dX0_witness_203 : decode cX0_witness 203 = .ok (.aload_n 0, 1) := by decide +kernel
theorem dX0_witness_204 : decode cX0_witness 204 = .ok (.getfield 32, 3) := by decide +kernel
theorem dX0_witness_207 : decode cX0_witness 207 = .ok (.iload 6, 2) := by decide +kernel
theorem dX0_witness_209 : decode cX0_witness 209 = .ok (.iaload, 1) := by decide +kernel
theorem dX0_witness_210 : decode cX0_witness 210 = .ok (.imul, 1) := by decide +kernel
theorem dX0_witness_211 : decode cX0_witness 211 = .ok (.iload 9, 2) := by decide +kernel
theorem dX0_witness_213 : decode cX0_witness 213 = .ok (.iadd, 1) := by decide +kernel
theorem dX0_witness_214 : decode cX0_witness 214 = .ok (.iastore, 1) := by decide +kernel
theorem dX0_witness_215 : decode cX0_witness 215 = .ok (.iinc 5 1, 3) := by decide +kernel
theorem dX0_witness_218 : decode cX0_witness 218 = .ok (.iinc 9 1, 3) := by decide +kernel
theorem dX0_witness_221 : decode cX0_witness 221 = .ok (.goto (-91), 3) := by decide +kernel
theorem dX0_witness_224 : decode cX0_witness 224 = .ok (.iinc 6 1, 3) := by decide +kernel
theorem dX0_witness_227 : decode cX0_witness 227 = .ok (.goto (-160), 3) := by decide +kernel
theorem dX0_witness_230 : decode cX0_witness 230 = .ok (.iconst 0, 1) := by decide +kernel
theorem dX0_witness_231 : decode cX0_witness 231 = .ok (.ireturn, 1) := by decide +kernel
abbrev cX0_words : ByteArray := prog_1_method_18_code
def yX0_words : MethodName := ⟨RX0, "words", "(II)J"⟩
theorem dX0_words_0 : decode cX0_words 0 = .ok (.aload_n 0, 1) := by decide +kernel
theorem dX0_words_1 : decode cX0_words 1 = .ok (.iload_n 1, 1) := by decide +kernel
theorem dX0_words_2 : decode cX0_words 2 = .ok (.invokevirtual 107, 3) := by decide +kernel
theorem dX0_words_5 : decode cX0_words 5 = .ok (.istore_n 3, 1) := by decide +kernel
theorem dX0_words_6 : decode cX0_words 6 = .ok (.iconst 0, 1) := by decide +kernel
theorem dX0_words_7 : decode cX0_words 7 = .ok (.istore 4, 2) := by decide +kernel
theorem dX0_words_9 : decode cX0_words 9 = .ok (.iload 4, 2) := by decide +kernel
theorem dX0_words_11 : decode cX0_words 11 = .ok (.aload_n 0, 1) := by decide +kernel
theorem dX0_words_12 : decode cX0_words 12 = .ok (.getfield 98, 3) := by decide +kernel
theorem dX0_words_15 : decode cX0_words 15 = .ok (.if_icmp .ge 26, 3) := by decide +kernel
theorem dX0_words_18 : decode cX0_words 18 = .ok (.aload_n 0, 1) := by decide +kernel
theorem dX0_words_19 : decode cX0_words 19 = .ok (.getfield 39, 3) := by decide +kernel
theorem dX0_words_22 : decode cX0_words 22 = .ok (.iload 4, 2) := by decide +kernel
theorem dX0_words_24 : decode cX0_words 24 = .ok (.aload_n 0, 1) := by decide +kernel
theorem dX0_words_25 : decode cX0_words 25 = .ok (.getfield 101, 3) := by decide +kernel
theorem dX0_words_28 : decode cX0_words 28 = .ok (.iload 4, 2) := by decide +kernel
theorem dX0_words_30 : decode cX0_words 30 = .ok (.ishr, 1) := by decide +kernel
theorem dX0_words_31 : decode cX0_words 31 = .ok (.iconst 1, 1) := by decide +kernel
theorem dX0_words_32 : decode cX0_words 32 = .ok (.iand, 1) := by decide +kernel
theorem dX0_words_33 : decode cX0_words 33 = .ok (.i2l, 1) := by decide +kernel
theorem dX0_words_34 : decode cX0_words 34 = .ok (.lastore, 1) := by decide +kernel
theorem dX0_words_35 : decode cX0_words 35 = .ok (.iinc 4 1, 3) := by decide +kernel
theorem dX0_words_38 : decode cX0_words 38 = .ok (.goto (-29), 3) := by decide +kernel
theorem dX0_words_41 : decode cX0_words 41 = .ok (.iconst 0, 1) := by decide +kernel
theorem dX0_words_42 : decode cX0_words 42 = .ok (.istore 4, 2) := by decide +kernel
theorem dX0_words_44 : decode cX0_words 44 = .ok (.iload 4, 2) := by decide +kernel
theorem dX0_words_46 : decode cX0_words 46 = .ok (.iload_n 2, 1) := by decide +kernel
theorem dX0_words_47 : decode cX0_words 47 = .ok (.bipush 31, 2) := by decide +kernel
theorem dX0_words_49 : decode cX0_words 49 = .ok (.iand, 1) := by decide +kernel
theorem dX0_words_50 : decode cX0_words 50 = .ok (.if_icmp .ge 82, 3) := by decide +kernel
theorem dX0_words_53 : decode cX0_words 53 = .ok (.iconst 0, 1) := by decide +kernel
theorem dX0_words_54 : decode cX0_words 54 = .ok (.istore 5, 2) := by decide +kernel
theorem dX0_words_56 : decode cX0_words 56 = .ok (.iload 5, 2) := by decide +kernel
theorem dX0_words_58 : decode cX0_words 58 = .ok (.aload_n 0, 1) := by decide +kernel
theorem dX0_words_59 : decode cX0_words 59 = .ok (.getfield 98, 3) := by decide +kernel
theorem dX0_words_62 : decode cX0_words 62 = .ok (.if_icmp .ge 47, 3) := by decide +kernel
theorem dX0_words_65 : decode cX0_words 65 = .ok (.aload_n 0, 1) := by decide +kernel
theorem dX0_words_66 : decode cX0_words 66 = .ok (.getfield 43, 3) := by decide +kernel
theorem dX0_words_69 : decode cX0_words 69 = .ok (.iload 5, 2) := by decide +kernel
theorem dX0_words_71 : decode cX0_words 71 = .ok (.aload_n 0, 1) := by decide +kernel
theorem dX0_words_72 : decode cX0_words 72 = .ok (.getfield 39, 3) := by decide +kernel
theorem dX0_words_75 : decode cX0_words 75 = .ok (.aload_n 0, 1) := by decide +kernel
theorem dX0_words_76 : decode cX0_words 76 = .ok (.getfield 20, 3) := by decide +kernel
theorem dX0_words_79 : decode cX0_words 79 = .ok (.iconst 2, 1) := by decide +kernel
theorem dX0_words_80 : decode cX0_words 80 = .ok (.iload 5, 2) := by decide +kernel
theorem dX0_words_82 : decode cX0_words 82 = .ok (.imul, 1) := by decide +kernel
theorem dX0_words_83 : decode cX0_words 83 = .ok (.iaload, 1) := by decide +kernel
theorem dX0_words_84 : decode cX0_words 84 = .ok (.laload, 1) := by decide +kernel
theorem dX0_words_85 : decode cX0_words 85 = .ok (.aload_n 0, 1) := by decide +kernel
theorem dX0_words_86 : decode cX0_words 86 = .ok (.getfield 39, 3) := by decide +kernel
theorem dX0_words_89 : decode cX0_words 89 = .ok (.aload_n 0, 1) := by decide +kernel
theorem dX0_words_90 : decode cX0_words 90 = .ok (.getfield 20, 3) := by decide +kernel
theorem dX0_words_93 : decode cX0_words 93 = .ok (.iconst 2, 1) := by decide +kernel
theorem dX0_words_94 : decode cX0_words 94 = .ok (.iload 5, 2) := by decide +kernel
theorem dX0_words_96 : decode cX0_words 96 = .ok (.imul, 1) := by decide +kernel
theorem dX0_words_97 : decode cX0_words 97 = .ok (.iconst 1, 1) := by decide +kernel
theorem dX0_words_98 : decode cX0_words 98 = .ok (.iadd, 1) := by decide +kernel
theorem dX0_words_99 : decode cX0_words 99 = .ok (.iaload, 1) := by decide +kernel
theorem dX0_words_100 : decode cX0_words 100 = .ok (.laload, 1) := by decide +kernel
theorem dX0_words_101 : decode cX0_words 101 = .ok (.ladd, 1) := by decide +kernel
theorem dX0_words_102 : decode cX0_words 102 = .ok (.lastore, 1) := by decide +kernel
theorem dX0_words_103 : decode cX0_words 103 = .ok (.iinc 5 1, 3) := by decide +kernel
theorem dX0_words_106 : decode cX0_words 106 = .ok (.goto (-50), 3) := by decide +kernel
theorem dX0_words_109 : decode cX0_words 109 = .ok (.aload_n 0, 1) := by decide +kernel
theorem dX0_words_110 : decode cX0_words 110 = .ok (.getfield 43, 3) := by decide +kernel
theorem dX0_words_113 : decode cX0_words 113 = .ok (.iconst 0, 1) := by decide +kernel
theorem dX0_words_114 : decode cX0_words 114 = .ok (.aload_n 0, 1) := by decide +kernel
theorem dX0_words_115 : decode cX0_words 115 = .ok (.getfield 39, 3) := by decide +kernel
theorem dX0_words_118 : decode cX0_words 118 = .ok (.iconst 0, 1) := by decide +kernel
theorem dX0_words_119 : decode cX0_words 119 = .ok (.aload_n 0, 1) := by decide +kernel
theorem dX0_words_120 : decode cX0_words 120 = .ok (.getfield 98, 3) := by decide +kernel
theorem dX0_words_123 : decode cX0_words 123 = .ok (.invokestatic 113, 3) := by decide +kernel
theorem dX0_words_126 : decode cX0_words 126 = .ok (.iinc 4 1, 3) := by decide +kernel
theorem dX0_words_129 : decode cX0_words 129 = .ok (.goto (-85), 3) := by decide +kernel
theorem dX0_words_132 : decode cX0_words 132 = .ok (.aload_n 0, 1) := by decide +kernel
theorem dX0_words_133 : decode cX0_words 133 = .ok (.getfield 39, 3) := by decide +kernel
theorem dX0_words_136 : decode cX0_words 136 = .ok (.iload_n 3, 1) := by decide +kernel
theorem dX0_words_137 : decode cX0_words 137 = .ok (.laload, 1) := by decide +kernel
theorem dX0_words_138 : decode cX0_words 138 = .ok (.lreturn, 1) := by decide +kernel
theorem q14 : (Jvm.Cond.initialized "StateDesk") ∈ lw_all := lw_g (lw_at lw_m0 1 rfl) rfl
theorem q20 : (Jvm.Cond.instantiable "StateDesk" (17 : Nat)) ∈ lw_all := lw_g (lw_at lw_m0 7 rfl) rfl
theorem q22 : (Jvm.Cond.instanceMethod ({ cls := "StateDesk", name := "<init>", desc := "()V" } : Jvm.MethodName)) ∈ lw_all := lw_g (lw_at lw_m0 9 rfl) rfl
theorem q23 : (Jvm.Cond.code ({ cls := "StateDesk", name := "<init>", desc := "()V" } : Jvm.MethodName) prog_1_method_1_code (1 : Nat) (Option.none : Option Jvm.ClassFile.FieldType)) ∈ lw_all := lw_g (lw_at lw_m0 10 rfl) rfl
theorem q24 : (Jvm.Cond.methodLink "StateDesk" (1 : Nat) ({ cls := "java/lang/Object", name := "<init>", desc := "()V" } : Jvm.MethodName)) ∈ lw_all := lw_g (lw_at lw_m0 11 rfl) rfl
theorem q27 : (Jvm.Cond.fieldLink "StateDesk" (7 : Nat) "StateDesk" "n" "I") ∈ lw_all := lw_g (lw_at lw_m0 14 rfl) rfl
theorem q28 : (Jvm.Cond.fieldLink "StateDesk" (46 : Nat) "StateDesk" "ends" "I") ∈ lw_all := lw_g (lw_at lw_m0 15 rfl) rfl
theorem q29 : (Jvm.Cond.fieldLink "StateDesk" (13 : Nat) "StateDesk" "to" "[I") ∈ lw_all := lw_g (lw_at lw_m0 16 rfl) rfl
theorem q30 : (Jvm.Cond.fieldLink "StateDesk" (55 : Nat) "StateDesk" "reckoned" "Z") ∈ lw_all := lw_g (lw_at lw_m0 17 rfl) rfl
theorem q31 : (Jvm.Cond.fieldLink "StateDesk" (17 : Nat) "StateDesk" "kind" "[I") ∈ lw_all := lw_g (lw_at lw_m0 18 rfl) rfl
theorem q32 : (Jvm.Cond.fieldLink "StateDesk" (20 : Nat) "StateDesk" "least" "[I") ∈ lw_all := lw_g (lw_at lw_m0 19 rfl) rfl
theorem q33 : (Jvm.Cond.fieldLink "StateDesk" (98 : Nat) "StateDesk" "kinds" "I") ∈ lw_all := lw_g (lw_at lw_m0 20 rfl) rfl
theorem q34 : (Jvm.Cond.fieldLink "StateDesk" (101 : Nat) "StateDesk" "leastEnds" "I") ∈ lw_all := lw_g (lw_at lw_m0 21 rfl) rfl
theorem q35 : (Jvm.Cond.fieldLink "StateDesk" (23 : Nat) "StateDesk" "set" "[I") ∈ lw_all := lw_g (lw_at lw_m0 22 rfl) rfl
theorem q36 : (Jvm.Cond.fieldLink "StateDesk" (26 : Nat) "StateDesk" "waiting" "[I") ∈ lw_all := lw_g (lw_at lw_m0 23 rfl) rfl
theorem q37 : (Jvm.Cond.fieldLink "StateDesk" (69 : Nat) "StateDesk" "sets" "I") ∈ lw_all := lw_g (lw_at lw_m0 24 rfl) rfl
theorem q38 : (Jvm.Cond.fieldLink "StateDesk" (66 : Nat) "StateDesk" "waits" "I") ∈ lw_all := lw_g (lw_at lw_m0 25 rfl) rfl
theorem q39 : (Jvm.Cond.fieldLink "StateDesk" (29 : Nat) "StateDesk" "pair" "[I") ∈ lw_all := lw_g (lw_at lw_m0 26 rfl) rfl
theorem q40 : (Jvm.Cond.fieldLink "StateDesk" (32 : Nat) "StateDesk" "wordOf" "[I") ∈ lw_all := lw_g (lw_at lw_m0 27 rfl) rfl
theorem q41 : (Jvm.Cond.fieldLink "StateDesk" (35 : Nat) "StateDesk" "met" "[Z") ∈ lw_all := lw_g (lw_at lw_m0 28 rfl) rfl
theorem q42 : (Jvm.Cond.fieldLink "StateDesk" (39 : Nat) "StateDesk" "now" "[J") ∈ lw_all := lw_g (lw_at lw_m0 29 rfl) rfl
theorem q43 : (Jvm.Cond.fieldLink "StateDesk" (43 : Nat) "StateDesk" "next" "[J") ∈ lw_all := lw_g (lw_at lw_m0 30 rfl) rfl
theorem q44 : (Jvm.Cond.lays "StateDesk" "StateDesk" "n" "I") ∈ lw_all := lw_g (lw_at lw_m0 31 rfl) rfl
theorem q45 : (Jvm.Cond.soleField "StateDesk" "n") ∈ lw_all := lw_g (lw_at lw_m0 32 rfl) rfl
theorem q46 : (Jvm.Cond.lays "StateDesk" "StateDesk" "ends" "I") ∈ lw_all := lw_g (lw_at lw_m0 33 rfl) rfl
theorem q47 : (Jvm.Cond.soleField "StateDesk" "ends") ∈ lw_all := lw_g (lw_at lw_m0 34 rfl) rfl
theorem q48 : (Jvm.Cond.laysFinal "StateDesk" "StateDesk" "to" "[I") ∈ lw_all := lw_g (lw_at lw_m0 35 rfl) rfl
theorem q49 : (Jvm.Cond.soleField "StateDesk" "to") ∈ lw_all := lw_g (lw_at lw_m0 36 rfl) rfl
theorem q50 : (Jvm.Cond.lays "StateDesk" "StateDesk" "reckoned" "Z") ∈ lw_all := lw_g (lw_at lw_m0 37 rfl) rfl
theorem q51 : (Jvm.Cond.soleField "StateDesk" "reckoned") ∈ lw_all := lw_g (lw_at lw_m0 38 rfl) rfl
theorem q52 : (Jvm.Cond.laysFinal "StateDesk" "StateDesk" "kind" "[I") ∈ lw_all := lw_g (lw_at lw_m0 39 rfl) rfl
theorem q53 : (Jvm.Cond.soleField "StateDesk" "kind") ∈ lw_all := lw_g (lw_at lw_m0 40 rfl) rfl
theorem q54 : (Jvm.Cond.laysFinal "StateDesk" "StateDesk" "least" "[I") ∈ lw_all := lw_g (lw_at lw_m0 41 rfl) rfl
theorem q55 : (Jvm.Cond.soleField "StateDesk" "least") ∈ lw_all := lw_g (lw_at lw_m0 42 rfl) rfl
theorem q56 : (Jvm.Cond.lays "StateDesk" "StateDesk" "kinds" "I") ∈ lw_all := lw_g (lw_at lw_m0 43 rfl) rfl
theorem q57 : (Jvm.Cond.soleField "StateDesk" "kinds") ∈ lw_all := lw_g (lw_at lw_m0 44 rfl) rfl
theorem q58 : (Jvm.Cond.lays "StateDesk" "StateDesk" "leastEnds" "I") ∈ lw_all := lw_g (lw_at lw_m0 45 rfl) rfl
theorem q59 : (Jvm.Cond.soleField "StateDesk" "leastEnds") ∈ lw_all := lw_g (lw_at lw_m0 46 rfl) rfl
theorem q60 : (Jvm.Cond.laysFinal "StateDesk" "StateDesk" "set" "[I") ∈ lw_all := lw_g (lw_at lw_m0 47 rfl) rfl
theorem q61 : (Jvm.Cond.soleField "StateDesk" "set") ∈ lw_all := lw_g (lw_at lw_m0 48 rfl) rfl
theorem q62 : (Jvm.Cond.laysFinal "StateDesk" "StateDesk" "waiting" "[I") ∈ lw_all := lw_g (lw_at lw_m0 49 rfl) rfl
theorem q63 : (Jvm.Cond.soleField "StateDesk" "waiting") ∈ lw_all := lw_g (lw_at lw_m0 50 rfl) rfl
theorem q64 : (Jvm.Cond.lays "StateDesk" "StateDesk" "sets" "I") ∈ lw_all := lw_g (lw_at lw_m0 51 rfl) rfl
theorem q65 : (Jvm.Cond.soleField "StateDesk" "sets") ∈ lw_all := lw_g (lw_at lw_m0 52 rfl) rfl
theorem q66 : (Jvm.Cond.lays "StateDesk" "StateDesk" "waits" "I") ∈ lw_all := lw_g (lw_at lw_m0 53 rfl) rfl
theorem q67 : (Jvm.Cond.soleField "StateDesk" "waits") ∈ lw_all := lw_g (lw_at lw_m0 54 rfl) rfl
theorem q68 : (Jvm.Cond.laysFinal "StateDesk" "StateDesk" "pair" "[I") ∈ lw_all := lw_g (lw_at lw_m0 55 rfl) rfl
theorem q69 : (Jvm.Cond.soleField "StateDesk" "pair") ∈ lw_all := lw_g (lw_at lw_m0 56 rfl) rfl
theorem q70 : (Jvm.Cond.laysFinal "StateDesk" "StateDesk" "wordOf" "[I") ∈ lw_all := lw_g (lw_at lw_m0 57 rfl) rfl
theorem q71 : (Jvm.Cond.soleField "StateDesk" "wordOf") ∈ lw_all := lw_g (lw_at lw_m0 58 rfl) rfl
theorem q72 : (Jvm.Cond.laysFinal "StateDesk" "StateDesk" "met" "[Z") ∈ lw_all := lw_g (lw_at lw_m0 59 rfl) rfl
theorem q73 : (Jvm.Cond.soleField "StateDesk" "met") ∈ lw_all := lw_g (lw_at lw_m0 60 rfl) rfl
theorem q74 : (Jvm.Cond.laysFinal "StateDesk" "StateDesk" "now" "[J") ∈ lw_all := lw_g (lw_at lw_m0 61 rfl) rfl
theorem q75 : (Jvm.Cond.soleField "StateDesk" "now") ∈ lw_all := lw_g (lw_at lw_m0 62 rfl) rfl
theorem q76 : (Jvm.Cond.laysFinal "StateDesk" "StateDesk" "next" "[J") ∈ lw_all := lw_g (lw_at lw_m0 63 rfl) rfl
theorem q77 : (Jvm.Cond.soleField "StateDesk" "next") ∈ lw_all := lw_g (lw_at lw_m0 64 rfl) rfl
theorem q78 : (Jvm.Cond.superclass "StateDesk" "java/lang/Object") ∈ lw_all := lw_g (lw_at lw_m0 65 rfl) rfl
theorem q83 : (Jvm.Cond.instanceMethod ({ cls := "StateDesk", name := "states", desc := "(I)V" } : Jvm.MethodName)) ∈ lw_all := lw_g (lw_at lw_m0 70 rfl) rfl
theorem q84 : (Jvm.Cond.selects "StateDesk" ({ cls := "StateDesk", name := "states", desc := "(I)V" } : Jvm.MethodName) ({ cls := "StateDesk", name := "states", desc := "(I)V" } : Jvm.MethodName)) ∈ lw_all := lw_g (lw_at lw_m0 71 rfl) rfl
theorem q85 : (Jvm.Cond.code ({ cls := "StateDesk", name := "states", desc := "(I)V" } : Jvm.MethodName) prog_1_method_2_code (2 : Nat) (Option.none : Option Jvm.ClassFile.FieldType)) ∈ lw_all := lw_g (lw_at lw_m0 72 rfl) rfl
theorem q86 : (Jvm.Cond.methodLink "StateDesk" (49 : Nat) ({ cls := "java/util/Arrays", name := "fill", desc := "([II)V" } : Jvm.MethodName)) ∈ lw_all := lw_g (lw_at lw_m0 73 rfl) rfl
theorem q90 : (Jvm.Cond.instanceMethod ({ cls := "StateDesk", name := "set", desc := "(IIII)V" } : Jvm.MethodName)) ∈ lw_all := lw_g (lw_at lw_m0 77 rfl) rfl
theorem q91 : (Jvm.Cond.selects "StateDesk" ({ cls := "StateDesk", name := "set", desc := "(IIII)V" } : Jvm.MethodName) ({ cls := "StateDesk", name := "set", desc := "(IIII)V" } : Jvm.MethodName)) ∈ lw_all := lw_g (lw_at lw_m0 78 rfl) rfl
theorem q92 : (Jvm.Cond.code ({ cls := "StateDesk", name := "set", desc := "(IIII)V" } : Jvm.MethodName) prog_1_method_4_code (6 : Nat) (Option.none : Option Jvm.ClassFile.FieldType)) ∈ lw_all := lw_g (lw_at lw_m0 79 rfl) rfl
theorem q93 : (Jvm.Cond.methodLink "StateDesk" (62 : Nat) ({ cls := "StateDesk", name := "state", desc := "(I)I" } : Jvm.MethodName)) ∈ lw_all := lw_g (lw_at lw_m0 80 rfl) rfl
theorem q94 : (Jvm.Cond.privateMethod ({ cls := "StateDesk", name := "state", desc := "(I)I" } : Jvm.MethodName)) ∈ lw_tbl := lw_at lw_m0 81 rfl
theorem q95 : (Jvm.Cond.instanceMethod ({ cls := "StateDesk", name := "state", desc := "(I)I" } : Jvm.MethodName)) ∈ lw_all := lw_g (lw_at lw_m0 82 rfl) rfl
theorem q96 : (Jvm.Cond.code ({ cls := "StateDesk", name := "state", desc := "(I)I" } : Jvm.MethodName) prog_1_method_3_code (2 : Nat) (Option.some Jvm.ClassFile.FieldType.int)) ∈ lw_all := lw_g (lw_at lw_m0 83 rfl) rfl
theorem q97 : (Jvm.Cond.constant "StateDesk" (61 : Nat) (2147483647 : Int32)) ∈ lw_all := lw_g (lw_at lw_m0 84 rfl) rfl
theorem q99 : (Jvm.Cond.instanceMethod ({ cls := "StateDesk", name := "takes", desc := "(III)Z" } : Jvm.MethodName)) ∈ lw_all := lw_g (lw_at lw_m0 86 rfl) rfl
theorem q100 : (Jvm.Cond.selects "StateDesk" ({ cls := "StateDesk", name := "takes", desc := "(III)Z" } : Jvm.MethodName) ({ cls := "StateDesk", name := "takes", desc := "(III)Z" } : Jvm.MethodName)) ∈ lw_all := lw_g (lw_at lw_m0 87 rfl) rfl
theorem q101 : (Jvm.Cond.code ({ cls := "StateDesk", name := "takes", desc := "(III)Z" } : Jvm.MethodName) prog_1_method_13_code (6 : Nat) (Option.some Jvm.ClassFile.FieldType.boolean)) ∈ lw_all := lw_g (lw_at lw_m0 88 rfl) rfl
theorem q102 : (Jvm.Cond.methodLink "StateDesk" (107 : Nat) ({ cls := "StateDesk", name := "kindOf", desc := "(I)I" } : Jvm.MethodName)) ∈ lw_all := lw_g (lw_at lw_m0 89 rfl) rfl
theorem q103 : (Jvm.Cond.privateMethod ({ cls := "StateDesk", name := "kindOf", desc := "(I)I" } : Jvm.MethodName)) ∈ lw_tbl := lw_at lw_m0 90 rfl
theorem q104 : (Jvm.Cond.instanceMethod ({ cls := "StateDesk", name := "kindOf", desc := "(I)I" } : Jvm.MethodName)) ∈ lw_all := lw_g (lw_at lw_m0 91 rfl) rfl
theorem q105 : (Jvm.Cond.code ({ cls := "StateDesk", name := "kindOf", desc := "(I)I" } : Jvm.MethodName) prog_1_method_12_code (2 : Nat) (Option.some Jvm.ClassFile.FieldType.int)) ∈ lw_all := lw_g (lw_at lw_m0 92 rfl) rfl
theorem q106 : (Jvm.Cond.methodLink "StateDesk" (104 : Nat) ({ cls := "StateDesk", name := "reckon", desc := "()V" } : Jvm.MethodName)) ∈ lw_all := lw_g (lw_at lw_m0 93 rfl) rfl
theorem q107 : (Jvm.Cond.privateMethod ({ cls := "StateDesk", name := "reckon", desc := "()V" } : Jvm.MethodName)) ∈ lw_tbl := lw_at lw_m0 94 rfl
theorem q108 : (Jvm.Cond.instanceMethod ({ cls := "StateDesk", name := "reckon", desc := "()V" } : Jvm.MethodName)) ∈ lw_all := lw_g (lw_at lw_m0 95 rfl) rfl
theorem q109 : (Jvm.Cond.code ({ cls := "StateDesk", name := "reckon", desc := "()V" } : Jvm.MethodName) prog_1_method_9_code (6 : Nat) (Option.none : Option Jvm.ClassFile.FieldType)) ∈ lw_all := lw_g (lw_at lw_m0 96 rfl) rfl
theorem q110 : (Jvm.Cond.methodLink "StateDesk" (72 : Nat) ({ cls := "java/lang/Integer", name := "bitCount", desc := "(I)I" } : Jvm.MethodName)) ∈ lw_all := lw_g (lw_at lw_m0 97 rfl) rfl
theorem q116 : (Jvm.Cond.methodLink "StateDesk" (75 : Nat) ({ cls := "StateDesk", name := "wait", desc := "(I)V" } : Jvm.MethodName)) ∈ lw_all := lw_g (lw_at lw_m0 103 rfl) rfl
theorem q117 : (Jvm.Cond.privateMethod ({ cls := "StateDesk", name := "wait", desc := "(I)V" } : Jvm.MethodName)) ∈ lw_tbl := lw_at lw_m0 104 rfl
theorem q118 : (Jvm.Cond.instanceMethod ({ cls := "StateDesk", name := "wait", desc := "(I)V" } : Jvm.MethodName)) ∈ lw_all := lw_g (lw_at lw_m0 105 rfl) rfl
theorem q119 : (Jvm.Cond.code ({ cls := "StateDesk", name := "wait", desc := "(I)V" } : Jvm.MethodName) prog_1_method_6_code (3 : Nat) (Option.none : Option Jvm.ClassFile.FieldType)) ∈ lw_all := lw_g (lw_at lw_m0 106 rfl) rfl
theorem q120 : (Jvm.Cond.methodLink "StateDesk" (79 : Nat) ({ cls := "StateDesk", name := "behind", desc := "(II)I" } : Jvm.MethodName)) ∈ lw_all := lw_g (lw_at lw_m0 107 rfl) rfl
theorem q121 : (Jvm.Cond.privateMethod ({ cls := "StateDesk", name := "behind", desc := "(II)I" } : Jvm.MethodName)) ∈ lw_tbl := lw_at lw_m0 108 rfl
theorem q122 : (Jvm.Cond.instanceMethod ({ cls := "StateDesk", name := "behind", desc := "(II)I" } : Jvm.MethodName)) ∈ lw_all := lw_g (lw_at lw_m0 109 rfl) rfl
theorem q123 : (Jvm.Cond.code ({ cls := "StateDesk", name := "behind", desc := "(II)I" } : Jvm.MethodName) prog_1_method_5_code (5 : Nat) (Option.some Jvm.ClassFile.FieldType.int)) ∈ lw_all := lw_g (lw_at lw_m0 110 rfl) rfl
theorem q124 : (Jvm.Cond.methodLink "StateDesk" (83 : Nat) ({ cls := "StateDesk", name := "split", desc := "(II)V" } : Jvm.MethodName)) ∈ lw_all := lw_g (lw_at lw_m0 111 rfl) rfl
theorem q125 : (Jvm.Cond.privateMethod ({ cls := "StateDesk", name := "split", desc := "(II)V" } : Jvm.MethodName)) ∈ lw_tbl := lw_at lw_m0 112 rfl
theorem q126 : (Jvm.Cond.instanceMethod ({ cls := "StateDesk", name := "split", desc := "(II)V" } : Jvm.MethodName)) ∈ lw_all := lw_g (lw_at lw_m0 113 rfl) rfl
theorem q127 : (Jvm.Cond.code ({ cls := "StateDesk", name := "split", desc := "(II)V" } : Jvm.MethodName) prog_1_method_10_code (8 : Nat) (Option.none : Option Jvm.ClassFile.FieldType)) ∈ lw_all := lw_g (lw_at lw_m0 114 rfl) rfl
theorem q128 : (Jvm.Cond.methodLink "StateDesk" (90 : Nat) ({ cls := "StateDesk", name := "isWaiting", desc := "(II)Z" } : Jvm.MethodName)) ∈ lw_all := lw_g (lw_at lw_m0 115 rfl) rfl
theorem q129 : (Jvm.Cond.privateMethod ({ cls := "StateDesk", name := "isWaiting", desc := "(II)Z" } : Jvm.MethodName)) ∈ lw_tbl := lw_at lw_m0 116 rfl
theorem q130 : (Jvm.Cond.instanceMethod ({ cls := "StateDesk", name := "isWaiting", desc := "(II)Z" } : Jvm.MethodName)) ∈ lw_all := lw_g (lw_at lw_m0 117 rfl) rfl
theorem q131 : (Jvm.Cond.code ({ cls := "StateDesk", name := "isWaiting", desc := "(II)Z" } : Jvm.MethodName) prog_1_method_8_code (4 : Nat) (Option.some Jvm.ClassFile.FieldType.boolean)) ∈ lw_all := lw_g (lw_at lw_m0 118 rfl) rfl
theorem q132 : (Jvm.Cond.methodLink "StateDesk" (94 : Nat) ({ cls := "StateDesk", name := "splitWaiting", desc := "(III)V" } : Jvm.MethodName)) ∈ lw_all := lw_g (lw_at lw_m0 119 rfl) rfl
theorem q133 : (Jvm.Cond.privateMethod ({ cls := "StateDesk", name := "splitWaiting", desc := "(III)V" } : Jvm.MethodName)) ∈ lw_tbl := lw_at lw_m0 120 rfl
theorem q134 : (Jvm.Cond.instanceMethod ({ cls := "StateDesk", name := "splitWaiting", desc := "(III)V" } : Jvm.MethodName)) ∈ lw_all := lw_g (lw_at lw_m0 121 rfl) rfl
theorem q135 : (Jvm.Cond.code ({ cls := "StateDesk", name := "splitWaiting", desc := "(III)V" } : Jvm.MethodName) prog_1_method_7_code (6 : Nat) (Option.none : Option Jvm.ClassFile.FieldType)) ∈ lw_all := lw_g (lw_at lw_m0 122 rfl) rfl
theorem q136 : (Jvm.Cond.methodLink "StateDesk" (87 : Nat) ({ cls := "StateDesk", name := "take", desc := "()V" } : Jvm.MethodName)) ∈ lw_all := lw_g (lw_at lw_m0 123 rfl) rfl
theorem q137 : (Jvm.Cond.privateMethod ({ cls := "StateDesk", name := "take", desc := "()V" } : Jvm.MethodName)) ∈ lw_tbl := lw_at lw_m0 124 rfl
theorem q138 : (Jvm.Cond.instanceMethod ({ cls := "StateDesk", name := "take", desc := "()V" } : Jvm.MethodName)) ∈ lw_all := lw_g (lw_at lw_m0 125 rfl) rfl
theorem q139 : (Jvm.Cond.code ({ cls := "StateDesk", name := "take", desc := "()V" } : Jvm.MethodName) prog_1_method_11_code (3 : Nat) (Option.none : Option Jvm.ClassFile.FieldType)) ∈ lw_all := lw_g (lw_at lw_m0 126 rfl) rfl
theorem q141 : (Jvm.Cond.instanceMethod ({ cls := "StateDesk", name := "same", desc := "(II)Z" } : Jvm.MethodName)) ∈ lw_all := lw_g (lw_at lw_m0 128 rfl) rfl
theorem q142 : (Jvm.Cond.selects "StateDesk" ({ cls := "StateDesk", name := "same", desc := "(II)Z" } : Jvm.MethodName) ({ cls := "StateDesk", name := "same", desc := "(II)Z" } : Jvm.MethodName)) ∈ lw_all := lw_g (lw_at lw_m0 129 rfl) rfl
theorem q143 : (Jvm.Cond.code ({ cls := "StateDesk", name := "same", desc := "(II)Z" } : Jvm.MethodName) prog_1_method_14_code (3 : Nat) (Option.some Jvm.ClassFile.FieldType.boolean)) ∈ lw_all := lw_g (lw_at lw_m0 130 rfl) rfl
theorem q145 : (Jvm.Cond.instanceMethod ({ cls := "StateDesk", name := "kinds", desc := "()I" } : Jvm.MethodName)) ∈ lw_all := lw_g (lw_at lw_m0 132 rfl) rfl
theorem q146 : (Jvm.Cond.selects "StateDesk" ({ cls := "StateDesk", name := "kinds", desc := "()I" } : Jvm.MethodName) ({ cls := "StateDesk", name := "kinds", desc := "()I" } : Jvm.MethodName)) ∈ lw_all := lw_g (lw_at lw_m0 133 rfl) rfl
theorem q147 : (Jvm.Cond.code ({ cls := "StateDesk", name := "kinds", desc := "()I" } : Jvm.MethodName) prog_1_method_15_code (1 : Nat) (Option.some Jvm.ClassFile.FieldType.int)) ∈ lw_all := lw_g (lw_at lw_m0 134 rfl) rfl
theorem q149 : (Jvm.Cond.instanceMethod ({ cls := "StateDesk", name := "needed", desc := "(I)I" } : Jvm.MethodName)) ∈ lw_all := lw_g (lw_at lw_m0 136 rfl) rfl
theorem q150 : (Jvm.Cond.selects "StateDesk" ({ cls := "StateDesk", name := "needed", desc := "(I)I" } : Jvm.MethodName) ({ cls := "StateDesk", name := "needed", desc := "(I)I" } : Jvm.MethodName)) ∈ lw_all := lw_g (lw_at lw_m0 137 rfl) rfl
theorem q151 : (Jvm.Cond.code ({ cls := "StateDesk", name := "needed", desc := "(I)I" } : Jvm.MethodName) prog_1_method_16_code (5 : Nat) (Option.some Jvm.ClassFile.FieldType.int)) ∈ lw_all := lw_g (lw_at lw_m0 138 rfl) rfl
theorem q153 : (Jvm.Cond.instanceMethod ({ cls := "StateDesk", name := "witness", desc := "(II)I" } : Jvm.MethodName)) ∈ lw_all := lw_g (lw_at lw_m0 140 rfl) rfl
theorem q154 : (Jvm.Cond.selects "StateDesk" ({ cls := "StateDesk", name := "witness", desc := "(II)I" } : Jvm.MethodName) ({ cls := "StateDesk", name := "witness", desc := "(II)I" } : Jvm.MethodName)) ∈ lw_all := lw_g (lw_at lw_m0 141 rfl) rfl
theorem q155 : (Jvm.Cond.code ({ cls := "StateDesk", name := "witness", desc := "(II)I" } : Jvm.MethodName) prog_1_method_17_code (11 : Nat) (Option.some Jvm.ClassFile.FieldType.int)) ∈ lw_all := lw_g (lw_at lw_m0 142 rfl) rfl
theorem q156 : (Jvm.Cond.methodLink "StateDesk" (110 : Nat) ({ cls := "java/util/Arrays", name := "fill", desc := "([ZZ)V" } : Jvm.MethodName)) ∈ lw_all := lw_g (lw_at lw_m0 143 rfl) rfl
theorem q160 : (Jvm.Cond.instanceMethod ({ cls := "StateDesk", name := "words", desc := "(II)J" } : Jvm.MethodName)) ∈ lw_all := lw_g (lw_at lw_m0 147 rfl) rfl
theorem q161 : (Jvm.Cond.selects "StateDesk" ({ cls := "StateDesk", name := "words", desc := "(II)J" } : Jvm.MethodName) ({ cls := "StateDesk", name := "words", desc := "(II)J" } : Jvm.MethodName)) ∈ lw_all := lw_g (lw_at lw_m0 148 rfl) rfl
theorem q162 : (Jvm.Cond.code ({ cls := "StateDesk", name := "words", desc := "(II)J" } : Jvm.MethodName) prog_1_method_18_code (6 : Nat) (Option.some Jvm.ClassFile.FieldType.long)) ∈ lw_all := lw_g (lw_at lw_m0 149 rfl) rfl
theorem q163 : (Jvm.Cond.methodLink "StateDesk" (113 : Nat) ({ cls := "java/lang/System", name := "arraycopy", desc := "(Ljava/lang/Object;ILjava/lang/Object;II)V" } : Jvm.MethodName)) ∈ lw_all := lw_g (lw_at lw_m0 150 rfl) rfl
theorem in_X0 : ∀ w ∈ wsX00, w ∈ lw_all := lw_in wsX00 [44, 46, 48, 50, 52, 54, 56, 58, 60, 62, 64, 66, 68, 70, 72, 74, 76] (by decide +kernel) (by decide +kernel)
end
section
/-! StateDeskModel -/
set_option maxRecDepth 100000
def RX1 : String := "StateDeskModel"
def TX1 : u_T := fun k => match k with
  | 0 => ("StateDeskModel", "go", "[I", true)
  | 1 => ("StateDeskModel", "end", "[Z", true)
  | 2 => ("StateDeskModel", "n", "I", false)
  | 3 => ("StateDeskModel", "apart", "[Z", true)
  | 4 => ("StateDeskModel", "dist", "[I", true)
  | 5 => ("StateDeskModel", "ways", "[J", true)
  | _ => ("StateDeskModel", "next", "[J", true)
def tyX1 : Nat → FieldType := fun k => match k with
  | 0 => .array .int
  | 1 => .array .boolean
  | 2 => .int
  | 3 => .array .boolean
  | 4 => .array .int
  | 5 => .array .long
  | _ => .array .long
abbrev wsX10 : List Cond := u_ws RX1 TX1 7
theorem nmX1 : ∀ a, a < 7 → ∀ b, b < 7 → a ≠ b → (TX1 a).2.1 ≠ (TX1 b).2.1 := by decide +kernel
theorem tyX1_ok : ∀ k, k < 7 → parseFieldDescriptor (TX1 k).2.2.1 = some (tyX1 k) := by decide +kernel
abbrev cX1_init : ByteArray := prog_3_method_1_code
def yX1_init : MethodName := ⟨RX1, "<init>", "()V"⟩
theorem dX1_init_0 : decode cX1_init 0 = .ok (.aload_n 0, 1) := by decide +kernel
theorem dX1_init_1 : decode cX1_init 1 = .ok (.invokespecial 1, 3) := by decide +kernel
theorem dX1_init_4 : decode cX1_init 4 = .ok (.aload_n 0, 1) := by decide +kernel
theorem dX1_init_5 : decode cX1_init 5 = .ok (.bipush 32, 2) := by decide +kernel
theorem dX1_init_7 : decode cX1_init 7 = .ok (.newarray .int, 2) := by decide +kernel
theorem dX1_init_9 : decode cX1_init 9 = .ok (.putfield 7, 3) := by decide +kernel
theorem dX1_init_12 : decode cX1_init 12 = .ok (.aload_n 0, 1) := by decide +kernel
theorem dX1_init_13 : decode cX1_init 13 = .ok (.bipush 16, 2) := by decide +kernel
theorem dX1_init_15 : decode cX1_init 15 = .ok (.newarray .boolean, 2) := by decide +kernel
theorem dX1_init_17 : decode cX1_init 17 = .ok (.putfield 13, 3) := by decide +kernel
theorem dX1_init_20 : decode cX1_init 20 = .ok (.aload_n 0, 1) := by decide +kernel
theorem dX1_init_21 : decode cX1_init 21 = .ok (.iconst 2, 1) := by decide +kernel
theorem dX1_init_22 : decode cX1_init 22 = .ok (.putfield 17, 3) := by decide +kernel
theorem dX1_init_25 : decode cX1_init 25 = .ok (.aload_n 0, 1) := by decide +kernel
theorem dX1_init_26 : decode cX1_init 26 = .ok (.sipush 256, 3) := by decide +kernel
theorem dX1_init_29 : decode cX1_init 29 = .ok (.newarray .boolean, 2) := by decide +kernel
theorem dX1_init_31 : decode cX1_init 31 = .ok (.putfield 21, 3) := by decide +kernel
theorem dX1_init_34 : decode cX1_init 34 = .ok (.aload_n 0, 1) := by decide +kernel
theorem dX1_init_35 : decode cX1_init 35 = .ok (.sipush 256, 3) := by decide +kernel
theorem dX1_init_38 : decode cX1_init 38 = .ok (.newarray .int, 2) := by decide +kernel
theorem dX1_init_40 : decode cX1_init 40 = .ok (.putfield 24, 3) := by decide +kernel
theorem dX1_init_43 : decode cX1_init 43 = .ok (.aload_n 0, 1) := by decide +kernel
theorem dX1_init_44 : decode cX1_init 44 = .ok (.bipush 16, 2) := by decide +kernel
theorem dX1_init_46 : decode cX1_init 46 = .ok (.newarray .long, 2) := by decide +kernel
theorem dX1_init_48 : decode cX1_init 48 = .ok (.putfield 27, 3) := by decide +kernel
theorem dX1_init_51 : decode cX1_init 51 = .ok (.aload_n 0, 1) := by decide +kernel
theorem dX1_init_52 : decode cX1_init 52 = .ok (.bipush 16, 2) := by decide +kernel
theorem dX1_init_54 : decode cX1_init 54 = .ok (.newarray .long, 2) := by decide +kernel
theorem dX1_init_56 : decode cX1_init 56 = .ok (.putfield 31, 3) := by decide +kernel
theorem dX1_init_59 : decode cX1_init 59 = .ok (.return_, 1) := by decide +kernel
abbrev cX1_states : ByteArray := prog_3_method_2_code
def yX1_states : MethodName := ⟨RX1, "states", "(I)V"⟩
theorem dX1_states_0 : decode cX1_states 0 = .ok (.aload_n 0, 1) := by decide +kernel
theorem dX1_states_1 : decode cX1_states 1 = .ok (.iconst 1, 1) := by decide +kernel
theorem dX1_states_2 : decode cX1_states 2 = .ok (.iload_n 1, 1) := by decide +kernel
theorem dX1_states_3 : decode cX1_states 3 = .ok (.bipush 15, 2) := by decide +kernel
theorem dX1_states_5 : decode cX1_states 5 = .ok (.iand, 1) := by decide +kernel
theorem dX1_states_6 : decode cX1_states 6 = .ok (.iadd, 1) := by decide +kernel
theorem dX1_states_7 : decode cX1_states 7 = .ok (.putfield 17, 3) := by decide +kernel
theorem dX1_states_10 : decode cX1_states 10 = .ok (.iconst 0, 1) := by decide +kernel
theorem dX1_states_11 : decode cX1_states 11 = .ok (.istore_n 2, 1) := by decide +kernel
theorem dX1_states_12 : decode cX1_states 12 = .ok (.iload_n 2, 1) := by decide +kernel
theorem dX1_states_13 : decode cX1_states 13 = .ok (.bipush 32, 2) := by decide +kernel
theorem dX1_states_15 : decode cX1_states 15 = .ok (.if_icmp .ge 16, 3) := by decide +kernel
theorem dX1_states_18 : decode cX1_states 18 = .ok (.aload_n 0, 1) := by decide +kernel
theorem dX1_states_19 : decode cX1_states 19 = .ok (.getfield 7, 3) := by decide +kernel
theorem dX1_states_22 : decode cX1_states 22 = .ok (.iload_n 2, 1) := by decide +kernel
theorem dX1_states_23 : decode cX1_states 23 = .ok (.iconst 0, 1) := by decide +kernel
theorem dX1_states_24 : decode cX1_states 24 = .ok (.iastore, 1) := by decide +kernel
theorem dX1_states_25 : decode cX1_states 25 = .ok (.iinc 2 1, 3) := by decide +kernel
theorem dX1_states_28 : decode cX1_states 28 = .ok (.goto (-16), 3) := by decide +kernel
theorem dX1_states_31 : decode cX1_states 31 = .ok (.iconst 0, 1) := by decide +kernel
theorem dX1_states_32 : decode cX1_states 32 = .ok (.istore_n 2, 1) := by decide +kernel
theorem dX1_states_33 : decode cX1_states 33 = .ok (.iload_n 2, 1) := by decide +kernel
theorem dX1_states_34 : decode cX1_states 34 = .ok (.bipush 16, 2) := by decide +kernel
theorem dX1_states_36 : decode cX1_states 36 = .ok (.if_icmp .ge 16, 3) := by decide +kernel
theorem dX1_states_39 : decode cX1_states 39 = .ok (.aload_n 0, 1) := by decide +kernel
theorem dX1_states_40 : decode cX1_states 40 = .ok (.getfield 13, 3) := by decide +kernel
theorem dX1_states_43 : decode cX1_states 43 = .ok (.iload_n 2, 1) := by decide +kernel
theorem dX1_states_44 : decode cX1_states 44 = .ok (.iconst 0, 1) := by decide +kernel
theorem dX1_states_45 : decode cX1_states 45 = .ok (.bastore, 1) := by decide +kernel
theorem dX1_states_46 : decode cX1_states 46 = .ok (.iinc 2 1, 3) := by decide +kernel
theorem dX1_states_49 : decode cX1_states 49 = .ok (.goto (-16), 3) := by decide +kernel
theorem dX1_states_52 : decode cX1_states 52 = .ok (.return_, 1) := by decide +kernel
abbrev cX1_set : ByteArray := prog_3_method_4_code
def yX1_set : MethodName := ⟨RX1, "set", "(IIII)V"⟩
theorem dX1_set_0 : decode cX1_set 0 = .ok (.aload_n 0, 1) := by decide +kernel
theorem dX1_set_1 : decode cX1_set 1 = .ok (.iload_n 1, 1) := by decide +kernel
theorem dX1_set_2 : decode cX1_set 2 = .ok (.invokevirtual 35, 3) := by decide +kernel
theorem dX1_set_5 : decode cX1_set 5 = .ok (.istore 5, 2) := by decide +kernel
theorem dX1_set_7 : decode cX1_set 7 = .ok (.aload_n 0, 1) := by decide +kernel
theorem dX1_set_8 : decode cX1_set 8 = .ok (.getfield 7, 3) := by decide +kernel
theorem dX1_set_11 : decode cX1_set 11 = .ok (.iconst 2, 1) := by decide +kernel
theorem dX1_set_12 : decode cX1_set 12 = .ok (.iload 5, 2) := by decide +kernel
theorem dX1_set_14 : decode cX1_set 14 = .ok (.imul, 1) := by decide +kernel
theorem dX1_set_15 : decode cX1_set 15 = .ok (.aload_n 0, 1) := by decide +kernel
theorem dX1_set_16 : decode cX1_set 16 = .ok (.iload_n 2, 1) := by decide +kernel
theorem dX1_set_17 : decode cX1_set 17 = .ok (.invokevirtual 35, 3) := by decide +kernel
theorem dX1_set_20 : decode cX1_set 20 = .ok (.iastore, 1) := by decide +kernel
theorem dX1_set_21 : decode cX1_set 21 = .ok (.aload_n 0, 1) := by decide +kernel
theorem dX1_set_22 : decode cX1_set 22 = .ok (.getfield 7, 3) := by decide +kernel
theorem dX1_set_25 : decode cX1_set 25 = .ok (.iconst 2, 1) := by decide +kernel
theorem dX1_set_26 : decode cX1_set 26 = .ok (.iload 5, 2) := by decide +kernel
theorem dX1_set_28 : decode cX1_set 28 = .ok (.imul, 1) := by decide +kernel
theorem dX1_set_29 : decode cX1_set 29 = .ok (.iconst 1, 1) := by decide +kernel
theorem dX1_set_30 : decode cX1_set 30 = .ok (.iadd, 1) := by decide +kernel
theorem dX1_set_31 : decode cX1_set 31 = .ok (.aload_n 0, 1) := by decide +kernel
theorem dX1_set_32 : decode cX1_set 32 = .ok (.iload_n 3, 1) := by decide +kernel
theorem dX1_set_33 : decode cX1_set 33 = .ok (.invokevirtual 35, 3) := by decide +kernel
theorem dX1_set_36 : decode cX1_set 36 = .ok (.iastore, 1) := by decide +kernel
theorem dX1_set_37 : decode cX1_set 37 = .ok (.aload_n 0, 1) := by decide +kernel
theorem dX1_set_38 : decode cX1_set 38 = .ok (.getfield 13, 3) := by decide +kernel
theorem dX1_set_41 : decode cX1_set 41 = .ok (.iload 5, 2) := by decide +kernel
theorem dX1_set_43 : decode cX1_set 43 = .ok (.iload 4, 2) := by decide +kernel
theorem dX1_set_45 : decode cX1_set 45 = .ok (.iconst 1, 1) := by decide +kernel
theorem dX1_set_46 : decode cX1_set 46 = .ok (.iand, 1) := by decide +kernel
theorem dX1_set_47 : decode cX1_set 47 = .ok (.ifCond .eq 7, 3) := by decide +kernel
theorem dX1_set_50 : decode cX1_set 50 = .ok (.iconst 1, 1) := by decide +kernel
theorem dX1_set_51 : decode cX1_set 51 = .ok (.goto 4, 3) := by decide +kernel
theorem dX1_set_54 : decode cX1_set 54 = .ok (.iconst 0, 1) := by decide +kernel
theorem dX1_set_55 : decode cX1_set 55 = .ok (.bastore, 1) := by decide +kernel
theorem dX1_set_56 : decode cX1_set 56 = .ok (.return_, 1) := by decide +kernel
abbrev cX1_at : ByteArray := prog_3_method_3_code
def yX1_at : MethodName := ⟨RX1, "at", "(I)I"⟩
theorem dX1_at_0 : decode cX1_at 0 = .ok (.iload_n 1, 1) := by decide +kernel
theorem dX1_at_1 : decode cX1_at 1 = .ok (.ldc 34, 2) := by decide +kernel
theorem dX1_at_3 : decode cX1_at 3 = .ok (.iand, 1) := by decide +kernel
theorem dX1_at_4 : decode cX1_at 4 = .ok (.aload_n 0, 1) := by decide +kernel
theorem dX1_at_5 : decode cX1_at 5 = .ok (.getfield 17, 3) := by decide +kernel
theorem dX1_at_8 : decode cX1_at 8 = .ok (.irem, 1) := by decide +kernel
theorem dX1_at_9 : decode cX1_at 9 = .ok (.ireturn, 1) := by decide +kernel
abbrev cX1_takes : ByteArray := prog_3_method_6_code
def yX1_takes : MethodName := ⟨RX1, "takes", "(III)Z"⟩
theorem dX1_takes_0 : decode cX1_takes 0 = .ok (.aload_n 0, 1) := by decide +kernel
theorem dX1_takes_1 : decode cX1_takes 1 = .ok (.getfield 13, 3) := by decide +kernel
theorem dX1_takes_4 : decode cX1_takes 4 = .ok (.aload_n 0, 1) := by decide +kernel
theorem dX1_takes_5 : decode cX1_takes 5 = .ok (.aload_n 0, 1) := by decide +kernel
theorem dX1_takes_6 : decode cX1_takes 6 = .ok (.iload_n 1, 1) := by decide +kernel
theorem dX1_takes_7 : decode cX1_takes 7 = .ok (.invokevirtual 35, 3) := by decide +kernel
theorem dX1_takes_10 : decode cX1_takes 10 = .ok (.iload_n 2, 1) := by decide +kernel
theorem dX1_takes_11 : decode cX1_takes 11 = .ok (.iload_n 3, 1) := by decide +kernel
theorem dX1_takes_12 : decode cX1_takes 12 = .ok (.bipush 31, 2) := by decide +kernel
theorem dX1_takes_14 : decode cX1_takes 14 = .ok (.iand, 1) := by decide +kernel
theorem dX1_takes_15 : decode cX1_takes 15 = .ok (.invokevirtual 39, 3) := by decide +kernel
theorem dX1_takes_18 : decode cX1_takes 18 = .ok (.baload, 1) := by decide +kernel
theorem dX1_takes_19 : decode cX1_takes 19 = .ok (.ireturn, 1) := by decide +kernel
abbrev cX1_walk : ByteArray := prog_3_method_5_code
def yX1_walk : MethodName := ⟨RX1, "walk", "(III)I"⟩
theorem dX1_walk_0 : decode cX1_walk 0 = .ok (.iload_n 1, 1) := by decide +kernel
theorem dX1_walk_1 : decode cX1_walk 1 = .ok (.istore 4, 2) := by decide +kernel
theorem dX1_walk_3 : decode cX1_walk 3 = .ok (.iconst 0, 1) := by decide +kernel
theorem dX1_walk_4 : decode cX1_walk 4 = .ok (.istore 5, 2) := by decide +kernel
theorem dX1_walk_6 : decode cX1_walk 6 = .ok (.iload 5, 2) := by decide +kernel
theorem dX1_walk_8 : decode cX1_walk 8 = .ok (.iload_n 3, 1) := by decide +kernel
theorem dX1_walk_9 : decode cX1_walk 9 = .ok (.if_icmp .ge 27, 3) := by decide +kernel
theorem dX1_walk_12 : decode cX1_walk 12 = .ok (.aload_n 0, 1) := by decide +kernel
theorem dX1_walk_13 : decode cX1_walk 13 = .ok (.getfield 7, 3) := by decide +kernel
theorem dX1_walk_16 : decode cX1_walk 16 = .ok (.iconst 2, 1) := by decide +kernel
theorem dX1_walk_17 : decode cX1_walk 17 = .ok (.iload 4, 2) := by decide +kernel
theorem dX1_walk_19 : decode cX1_walk 19 = .ok (.imul, 1) := by decide +kernel
theorem dX1_walk_20 : decode cX1_walk 20 = .ok (.iload_n 2, 1) := by decide +kernel
theorem dX1_walk_21 : decode cX1_walk 21 = .ok (.iload 5, 2) := by decide +kernel
theorem dX1_walk_23 : decode cX1_walk 23 = .ok (.ishr, 1) := by decide +kernel
theorem dX1_walk_24 : decode cX1_walk 24 = .ok (.iconst 1, 1) := by decide +kernel
theorem dX1_walk_25 : decode cX1_walk 25 = .ok (.iand, 1) := by decide +kernel
theorem dX1_walk_26 : decode cX1_walk 26 = .ok (.iadd, 1) := by decide +kernel
theorem dX1_walk_27 : decode cX1_walk 27 = .ok (.iaload, 1) := by decide +kernel
theorem dX1_walk_28 : decode cX1_walk 28 = .ok (.istore 4, 2) := by decide +kernel
theorem dX1_walk_30 : decode cX1_walk 30 = .ok (.iinc 5 1, 3) := by decide +kernel
theorem dX1_walk_33 : decode cX1_walk 33 = .ok (.goto (-27), 3) := by decide +kernel
theorem dX1_walk_36 : decode cX1_walk 36 = .ok (.iload 4, 2) := by decide +kernel
theorem dX1_walk_38 : decode cX1_walk 38 = .ok (.ireturn, 1) := by decide +kernel
abbrev cX1_same : ByteArray := prog_3_method_8_code
def yX1_same : MethodName := ⟨RX1, "same", "(II)Z"⟩
theorem dX1_same_0 : decode cX1_same 0 = .ok (.aload_n 0, 1) := by decide +kernel
theorem dX1_same_1 : decode cX1_same 1 = .ok (.invokevirtual 43, 3) := by decide +kernel
theorem dX1_same_4 : decode cX1_same 4 = .ok (.aload_n 0, 1) := by decide +kernel
theorem dX1_same_5 : decode cX1_same 5 = .ok (.getfield 21, 3) := by decide +kernel
theorem dX1_same_8 : decode cX1_same 8 = .ok (.bipush 16, 2) := by decide +kernel
theorem dX1_same_10 : decode cX1_same 10 = .ok (.aload_n 0, 1) := by decide +kernel
theorem dX1_same_11 : decode cX1_same 11 = .ok (.iload_n 1, 1) := by decide +kernel
theorem dX1_same_12 : decode cX1_same 12 = .ok (.invokevirtual 35, 3) := by decide +kernel
theorem dX1_same_15 : decode cX1_same 15 = .ok (.imul, 1) := by decide +kernel
theorem dX1_same_16 : decode cX1_same 16 = .ok (.aload_n 0, 1) := by decide +kernel
theorem dX1_same_17 : decode cX1_same 17 = .ok (.iload_n 2, 1) := by decide +kernel
theorem dX1_same_18 : decode cX1_same 18 = .ok (.invokevirtual 35, 3) := by decide +kernel
theorem dX1_same_21 : decode cX1_same 21 = .ok (.iadd, 1) := by decide +kernel
theorem dX1_same_22 : decode cX1_same 22 = .ok (.baload, 1) := by decide +kernel
theorem dX1_same_23 : decode cX1_same 23 = .ok (.ifCond .ne 7, 3) := by decide +kernel
theorem dX1_same_26 : decode cX1_same 26 = .ok (.iconst 1, 1) := by decide +kernel
theorem dX1_same_27 : decode cX1_same 27 = .ok (.goto 4, 3) := by decide +kernel
theorem dX1_same_30 : decode cX1_same 30 = .ok (.iconst 0, 1) := by decide +kernel
theorem dX1_same_31 : decode cX1_same 31 = .ok (.ireturn, 1) := by decide +kernel
abbrev cX1_reckon : ByteArray := prog_3_method_7_code
def yX1_reckon : MethodName := ⟨RX1, "reckon", "()V"⟩
theorem dX1_reckon_0 : decode cX1_reckon 0 = .ok (.iconst 0, 1) := by decide +kernel
theorem dX1_reckon_1 : decode cX1_reckon 1 = .ok (.istore_n 1, 1) := by decide +kernel
theorem dX1_reckon_2 : decode cX1_reckon 2 = .ok (.iload_n 1, 1) := by decide +kernel
theorem dX1_reckon_3 : decode cX1_reckon 3 = .ok (.sipush 256, 3) := by decide +kernel
theorem dX1_reckon_6 : decode cX1_reckon 6 = .ok (.if_icmp .ge 63, 3) := by decide +kernel
theorem dX1_reckon_9 : decode cX1_reckon 9 = .ok (.aload_n 0, 1) := by decide +kernel
theorem dX1_reckon_10 : decode cX1_reckon 10 = .ok (.getfield 21, 3) := by decide +kernel
theorem dX1_reckon_13 : decode cX1_reckon 13 = .ok (.iload_n 1, 1) := by decide +kernel
theorem dX1_reckon_14 : decode cX1_reckon 14 = .ok (.iload_n 1, 1) := by decide +kernel
theorem dX1_reckon_15 : decode cX1_reckon 15 = .ok (.bipush 16, 2) := by decide +kernel
theorem dX1_reckon_17 : decode cX1_reckon 17 = .ok (.idiv, 1) := by decide +kernel
theorem dX1_reckon_18 : decode cX1_reckon 18 = .ok (.aload_n 0, 1) := by decide +kernel
theorem dX1_reckon_19 : decode cX1_reckon 19 = .ok (.getfield 17, 3) := by decide +kernel
theorem dX1_reckon_22 : decode cX1_reckon 22 = .ok (.if_icmp .ge 39, 3) := by decide +kernel
theorem dX1_reckon_25 : decode cX1_reckon 25 = .ok (.iload_n 1, 1) := by decide +kernel
theorem dX1_reckon_26 : decode cX1_reckon 26 = .ok (.bipush 16, 2) := by decide +kernel
theorem dX1_reckon_28 : decode cX1_reckon 28 = .ok (.irem, 1) := by decide +kernel
theorem dX1_reckon_29 : decode cX1_reckon 29 = .ok (.aload_n 0, 1) := by decide +kernel
theorem dX1_reckon_30 : decode cX1_reckon 30 = .ok (.getfield 17, 3) := by decide +kernel
theorem dX1_reckon_33 : decode cX1_reckon 33 = .ok (.if_icmp .ge 28, 3) := by decide +kernel
theorem dX1_reckon_36 : decode cX1_reckon 36 = .ok (.aload_n 0, 1) := by decide +kernel
theorem dX1_reckon_37 : decode cX1_reckon 37 = .ok (.getfield 13, 3) := by decide +kernel
theorem dX1_reckon_40 : decode cX1_reckon 40 = .ok (.iload_n 1, 1) := by decide +kernel
theorem dX1_reckon_41 : decode cX1_reckon 41 = .ok (.bipush 16, 2) := by decide +kernel
theorem dX1_reckon_43 : decode cX1_reckon 43 = .ok (.idiv, 1) := by decide +kernel
theorem dX1_reckon_44 : decode cX1_reckon 44 = .ok (.baload, 1) := by decide +kernel
theorem dX1_reckon_45 : decode cX1_reckon 45 = .ok (.aload_n 0, 1) := by decide +kernel
theorem dX1_reckon_46 : decode cX1_reckon 46 = .ok (.getfield 13, 3) := by decide +kernel
theorem dX1_reckon_49 : decode cX1_reckon 49 = .ok (.iload_n 1, 1) := by decide +kernel
theorem dX1_reckon_50 : decode cX1_reckon 50 = .ok (.bipush 16, 2) := by decide +kernel
theorem dX1_reckon_52 : decode cX1_reckon 52 = .ok (.irem, 1) := by decide +kernel
theorem dX1_reckon_53 : decode cX1_reckon 53 = .ok (.baload, 1) := by decide +kernel
theorem dX1_reckon_54 : decode cX1_reckon 54 = .ok (.if_icmp .eq 7, 3) := by decide +kernel
theorem dX1_reckon_57 : decode cX1_reckon 57 = .ok (.iconst 1, 1) := by decide +kernel
theorem dX1_reckon_58 : decode cX1_reckon 58 = .ok (.goto 4, 3) := by decide +kernel
theorem dX1_reckon_61 : decode cX1_reckon 61 = .ok (.iconst 0, 1) := by decide +kernel
theorem dX1_reckon_62 : decode cX1_reckon 62 = .ok (.bastore, 1) := by decide +kernel
theorem dX1_reckon_63 : decode cX1_reckon 63 = .ok (.iinc 1 1, 3) := by decide +kernel
theorem dX1_reckon_66 : decode cX1_reckon 66 = .ok (.goto (-64), 3) := by decide +kernel
theorem dX1_reckon_69 : decode cX1_reckon 69 = .ok (.iconst 1, 1) := by decide +kernel
theorem dX1_reckon_70 : decode cX1_reckon 70 = .ok (.istore_n 1, 1) := by decide +kernel
theorem dX1_reckon_71 : decode cX1_reckon 71 = .ok (.iload_n 1, 1) := by decide +kernel
theorem dX1_reckon_72 : decode cX1_reckon 72 = .ok (.ifCond .eq 128, 3) := by decide +kernel
theorem dX1_reckon_75 : decode cX1_reckon 75 = .ok (.iconst 0, 1) := by decide +kernel
theorem dX1_reckon_76 : decode cX1_reckon 76 = .ok (.istore_n 1, 1) := by decide +kernel
theorem dX1_reckon_77 : decode cX1_reckon 77 = .ok (.iconst 0, 1) := by decide +kernel
theorem dX1_reckon_78 : decode cX1_reckon 78 = .ok (.istore_n 2, 1) := by decide +kernel
theorem dX1_reckon_79 : decode cX1_reckon 79 = .ok (.iload_n 2, 1) := by decide +kernel
theorem dX1_reckon_80 : decode cX1_reckon 80 = .ok (.aload_n 0, 1) := by decide +kernel
theorem dX1_reckon_81 : decode cX1_reckon 81 = .ok (.getfield 17, 3) := by decide +kernel
theorem dX1_reckon_84 : decode cX1_reckon 84 = .ok (.if_icmp .ge 113, 3) := by decide +kernel
theorem dX1_reckon_87 : decode cX1_reckon 87 = .ok (.iconst 0, 1) := by decide +kernel
theorem dX1_reckon_88 : decode cX1_reckon 88 = .ok (.istore_n 3, 1) := by decide +kernel
theorem dX1_reckon_89 : decode cX1_reckon 89 = .ok (.iload_n 3, 1) := by decide +kernel
theorem dX1_reckon_90 : decode cX1_reckon 90 = .ok (.aload_n 0, 1) := by decide +kernel
theorem dX1_reckon_91 : decode cX1_reckon 91 = .ok (.getfield 17, 3) := by decide +kernel
theorem dX1_reckon_94 : decode cX1_reckon 94 = .ok (.if_icmp .ge 97, 3) := by decide +kernel
theorem dX1_reckon_97 : decode cX1_reckon 97 = .ok (.aload_n 0, 1) := by decide +kernel
theorem dX1_reckon_98 : decode cX1_reckon 98 = .ok (.getfield 21, 3) := by decide +kernel
theorem dX1_reckon_101 : decode cX1_reckon 101 = .ok (.bipush 16, 2) := by decide +kernel
theorem dX1_reckon_103 : decode cX1_reckon 103 = .ok (.iload_n 2, 1) := by decide +kernel
theorem dX1_reckon_104 : decode cX1_reckon 104 = .ok (.imul, 1) := by decide +kernel
theorem dX1_reckon_105 : decode cX1_reckon 105 = .ok (.iload_n 3, 1) := by decide +kernel
theorem dX1_reckon_106 : decode cX1_reckon 106 = .ok (.iadd, 1) := by decide +kernel
theorem dX1_reckon_107 : decode cX1_reckon 107 = .ok (.baload, 1) := by decide +kernel
theorem dX1_reckon_108 : decode cX1_reckon 108 = .ok (.ifCond .ne 77, 3) := by decide +kernel
theorem dX1_reckon_111 : decode cX1_reckon 111 = .ok (.aload_n 0, 1) := by decide +kernel
theorem dX1_reckon_112 : decode cX1_reckon 112 = .ok (.getfield 21, 3) := by decide +kernel
theorem dX1_reckon_115 : decode cX1_reckon 115 = .ok (.bipush 16, 2) := by decide +kernel
theorem dX1_reckon_117 : decode cX1_reckon 117 = .ok (.aload_n 0, 1) := by decide +kernel
theorem dX1_reckon_118 : decode cX1_reckon 118 = .ok (.getfield 7, 3) := by decide +kernel
theorem dX1_reckon_121 : decode cX1_reckon 121 = .ok (.iconst 2, 1) := by decide +kernel
theorem dX1_reckon_122 : decode cX1_reckon 122 = .ok (.iload_n 2, 1) := by decide +kernel
theorem dX1_reckon_123 : decode cX1_reckon 123 = .ok (.imul, 1) := by decide +kernel
theorem dX1_reckon_124 : decode cX1_reckon 124 = .ok (.iaload, 1) := by decide +kernel
theorem dX1_reckon_125 : decode cX1_reckon 125 = .ok (.imul, 1) := by decide +kernel
theorem dX1_reckon_126 : decode cX1_reckon 126 = .ok (.aload_n 0, 1) := by decide +kernel
theorem dX1_reckon_127 : decode cX1_reckon 127 = .ok (.getfield 7, 3) := by decide +kernel
theorem dX1_reckon_130 : decode cX1_reckon 130 = .ok (.iconst 2, 1) := by decide +kernel
theorem dX1_reckon_131 : decode cX1_reckon 131 = .ok (.iload_n 3, 1) := by decide +kernel
theorem dX1_reckon_132 : decode cX1_reckon 132 = .ok (.imul, 1) := by decide +kernel
theorem dX1_reckon_133 : decode cX1_reckon 133 = .ok (.iaload, 1) := by decide +kernel
theorem dX1_reckon_134 : decode cX1_reckon 134 = .ok (.iadd, 1) := by decide +kernel
theorem dX1_reckon_135 : decode cX1_reckon 135 = .ok (.baload, 1) := by decide +kernel
theorem dX1_reckon_136 : decode cX1_reckon 136 = .ok (.ifCond .ne 35, 3) := by decide +kernel
theorem dX1_reckon_139 : decode cX1_reckon 139 = .ok (.aload_n 0, 1) := by decide +kernel
theorem dX1_reckon_140 : decode cX1_reckon 140 = .ok (.getfield 21, 3) := by decide +kernel
theorem dX1_reckon_143 : decode cX1_reckon 143 = .ok (.bipush 16, 2) := by decide +kernel
theorem dX1_reckon_145 : decode cX1_reckon 145 = .ok (.aload_n 0, 1) := by decide +kernel
theorem dX1_reckon_146 : decode cX1_reckon 146 = .ok (.getfield 7, 3) := by decide +kernel
theorem dX1_reckon_149 : decode cX1_reckon 149 = .ok (.iconst 2, 1) := by decide +kernel
theorem dX1_reckon_150 : decode cX1_reckon 150 = .ok (.iload_n 2, 1) := by decide +kernel
theorem dX1_reckon_151 : decode cX1_reckon 151 = .ok (.imul, 1) := by decide +kernel
theorem dX1_reckon_152 : decode cX1_reckon 152 = .ok (.iconst 1, 1) := by decide +kernel
theorem dX1_reckon_153 : decode cX1_reckon 153 = .ok (.iadd, 1) := by decide +kernel
theorem dX1_reckon_154 : decode cX1_reckon 154 = .ok (.iaload, 1) := by decide +kernel
theorem dX1_reckon_155 : decode cX1_reckon 155 = .ok (.imul, 1) := by decide +kernel
theorem dX1_reckon_156 : decode cX1_reckon 156 = .ok (.aload_n 0, 1) := by decide +kernel
theorem dX1_reckon_157 : decode cX1_reckon 157 = .ok (.getfield 7, 3) := by decide +kernel
theorem dX1_reckon_160 : decode cX1_reckon 160 = .ok (.iconst 2, 1) := by decide +kernel
theorem dX1_reckon_161 : decode cX1_reckon 161 = .ok (.iload_n 3, 1) := by decide +kernel
theorem dX1_reckon_162 : decode cX1_reckon 162 = .ok (.imul, 1) := by decide +kernel
theorem dX1_reckon_163 : decode cX1_reckon 163 = .ok (.iconst 1, 1) := by decide +kernel
theorem dX1_reckon_164 : decode cX1_reckon 164 = .ok (.iadd, 1) := by decide +kernel
theorem dX1_reckon_165 : decode cX1_reckon 165 = .ok (.iaload, 1) := by decide +kernel
theorem dX1_reckon_166 : decode cX1_reckon 166 = .ok (.iadd, 1) := by decide +kernel
theorem dX1_reckon_167 : decode cX1_reckon 167 = .ok (.baload, 1) := by decide +kernel
theorem dX1_reckon_168 : decode cX1_reckon 168 = .ok (.ifCond .eq 17, 3) := by decide +kernel
theorem dX1_reckon_171 : decode cX1_reckon 171 = .ok (.aload_n 0, 1) := by decide +kernel
theorem dX1_reckon_172 : decode cX1_reckon 172 = .ok (.getfield 21, 3) := by decide +kernel
theorem dX1_reckon_175 : decode cX1_reckon 175 = .ok (.bipush 16, 2) := by decide +kernel
theorem dX1_reckon_177 : decode cX1_reckon 177 = .ok (.iload_n 2, 1) := by decide +kernel
theorem dX1_reckon_178 : decode cX1_reckon 178 = .ok (.imul, 1) := by decide +kernel
theorem dX1_reckon_179 : decode cX1_reckon 179 = .ok (.iload_n 3, 1) := by decide +kernel
theorem dX1_reckon_180 : decode cX1_reckon 180 = .ok (.iadd, 1) := by decide +kernel
theorem dX1_reckon_181 : decode cX1_reckon 181 = .ok (.iconst 1, 1) := by decide +kernel
theorem dX1_reckon_182 : decode cX1_reckon 182 = .ok (.bastore, 1) := by decide +kernel
theorem dX1_reckon_183 : decode cX1_reckon 183 = .ok (.iconst 1, 1) := by decide +kernel
theorem dX1_reckon_184 : decode cX1_reckon 184 = .ok (.istore_n 1, 1) := by decide +kernel
theorem dX1_reckon_185 : decode cX1_reckon 185 = .ok (.iinc 3 1, 3) := by decide +kernel
theorem dX1_reckon_188 : decode cX1_reckon 188 = .ok (.goto (-99), 3) := by decide +kernel
theorem dX1_reckon_191 : decode cX1_reckon 191 = .ok (.iinc 2 1, 3) := by decide +kernel
theorem dX1_reckon_194 : decode cX1_reckon 194 = .ok (.goto (-115), 3) := by decide +kernel
theorem dX1_reckon_197 : decode cX1_reckon 197 = .ok (.goto (-126), 3) := by decide +kernel
theorem dX1_reckon_200 : decode cX1_reckon 200 = .ok (.return_, 1) := by decide +kernel
abbrev cX1_kinds : ByteArray := prog_3_method_9_code
def yX1_kinds : MethodName := ⟨RX1, "kinds", "()I"⟩
theorem dX1_kinds_0 : decode cX1_kinds 0 = .ok (.aload_n 0, 1) := by decide +kernel
theorem dX1_kinds_1 : decode cX1_kinds 1 = .ok (.invokevirtual 43, 3) := by decide +kernel
theorem dX1_kinds_4 : decode cX1_kinds 4 = .ok (.iconst 0, 1) := by decide +kernel
theorem dX1_kinds_5 : decode cX1_kinds 5 = .ok (.istore_n 1, 1) := by decide +kernel
theorem dX1_kinds_6 : decode cX1_kinds 6 = .ok (.iconst 0, 1) := by decide +kernel
theorem dX1_kinds_7 : decode cX1_kinds 7 = .ok (.istore_n 2, 1) := by decide +kernel
theorem dX1_kinds_8 : decode cX1_kinds 8 = .ok (.iload_n 2, 1) := by decide +kernel
theorem dX1_kinds_9 : decode cX1_kinds 9 = .ok (.aload_n 0, 1) := by decide +kernel
theorem dX1_kinds_10 : decode cX1_kinds 10 = .ok (.getfield 17, 3) := by decide +kernel
theorem dX1_kinds_13 : decode cX1_kinds 13 = .ok (.if_icmp .ge 59, 3) := by decide +kernel
theorem dX1_kinds_16 : decode cX1_kinds 16 = .ok (.iconst 1, 1) := by decide +kernel
theorem dX1_kinds_17 : decode cX1_kinds 17 = .ok (.istore_n 3, 1) := by decide +kernel
theorem dX1_kinds_18 : decode cX1_kinds 18 = .ok (.iconst 0, 1) := by decide +kernel
theorem dX1_kinds_19 : decode cX1_kinds 19 = .ok (.istore 4, 2) := by decide +kernel
theorem dX1_kinds_21 : decode cX1_kinds 21 = .ok (.iload 4, 2) := by decide +kernel
theorem dX1_kinds_23 : decode cX1_kinds 23 = .ok (.iload_n 2, 1) := by decide +kernel
theorem dX1_kinds_24 : decode cX1_kinds 24 = .ok (.if_icmp .ge 34, 3) := by decide +kernel
theorem dX1_kinds_27 : decode cX1_kinds 27 = .ok (.iload_n 3, 1) := by decide +kernel
theorem dX1_kinds_28 : decode cX1_kinds 28 = .ok (.ifCond .eq 22, 3) := by decide +kernel
theorem dX1_kinds_31 : decode cX1_kinds 31 = .ok (.aload_n 0, 1) := by decide +kernel
theorem dX1_kinds_32 : decode cX1_kinds 32 = .ok (.getfield 21, 3) := by decide +kernel
theorem dX1_kinds_35 : decode cX1_kinds 35 = .ok (.bipush 16, 2) := by decide +kernel
theorem dX1_kinds_37 : decode cX1_kinds 37 = .ok (.iload_n 2, 1) := by decide +kernel
theorem dX1_kinds_38 : decode cX1_kinds 38 = .ok (.imul, 1) := by decide +kernel
theorem dX1_kinds_39 : decode cX1_kinds 39 = .ok (.iload 4, 2) := by decide +kernel
theorem dX1_kinds_41 : decode cX1_kinds 41 = .ok (.iadd, 1) := by decide +kernel
theorem dX1_kinds_42 : decode cX1_kinds 42 = .ok (.baload, 1) := by decide +kernel
theorem dX1_kinds_43 : decode cX1_kinds 43 = .ok (.ifCond .eq 7, 3) := by decide +kernel
theorem dX1_kinds_46 : decode cX1_kinds 46 = .ok (.iconst 1, 1) := by decide +kernel
theorem dX1_kinds_47 : decode cX1_kinds 47 = .ok (.goto 4, 3) := by decide +kernel
theorem dX1_kinds_50 : decode cX1_kinds 50 = .ok (.iconst 0, 1) := by decide +kernel
theorem dX1_kinds_51 : decode cX1_kinds 51 = .ok (.istore_n 3, 1) := by decide +kernel
theorem dX1_kinds_52 : decode cX1_kinds 52 = .ok (.iinc 4 1, 3) := by decide +kernel
theorem dX1_kinds_55 : decode cX1_kinds 55 = .ok (.goto (-34), 3) := by decide +kernel
theorem dX1_kinds_58 : decode cX1_kinds 58 = .ok (.iload_n 3, 1) := by decide +kernel
theorem dX1_kinds_59 : decode cX1_kinds 59 = .ok (.ifCond .eq 7, 3) := by decide +kernel
theorem dX1_kinds_62 : decode cX1_kinds 62 = .ok (.iload_n 1, 1) := by decide +kernel
theorem dX1_kinds_63 : decode cX1_kinds 63 = .ok (.iconst 1, 1) := by decide +kernel
theorem dX1_kinds_64 : decode cX1_kinds 64 = .ok (.iadd, 1) := by decide +kernel
theorem dX1_kinds_65 : decode cX1_kinds 65 = .ok (.istore_n 1, 1) := by decide +kernel
theorem dX1_kinds_66 : decode cX1_kinds 66 = .ok (.iinc 2 1, 3) := by decide +kernel
theorem dX1_kinds_69 : decode cX1_kinds 69 = .ok (.goto (-61), 3) := by decide +kernel
theorem dX1_kinds_72 : decode cX1_kinds 72 = .ok (.iload_n 1, 1) := by decide +kernel
theorem dX1_kinds_73 : decode cX1_kinds 73 = .ok (.ireturn, 1) := by decide +kernel
abbrev cX1_needed : ByteArray := prog_3_method_10_code
def yX1_needed : MethodName := ⟨RX1, "needed", "(I)I"⟩
theorem dX1_needed_0 : decode cX1_needed 0 = .ok (.aload_n 0, 1) := by decide +kernel
theorem dX1_needed_1 : decode cX1_needed 1 = .ok (.invokevirtual 43, 3) := by decide +kernel
theorem dX1_needed_4 : decode cX1_needed 4 = .ok (.iconst 1, 1) := by decide +kernel
theorem dX1_needed_5 : decode cX1_needed 5 = .ok (.istore_n 2, 1) := by decide +kernel
theorem dX1_needed_6 : decode cX1_needed 6 = .ok (.iconst 1, 1) := by decide +kernel
theorem dX1_needed_7 : decode cX1_needed 7 = .ok (.aload_n 0, 1) := by decide +kernel
theorem dX1_needed_8 : decode cX1_needed 8 = .ok (.iload_n 1, 1) := by decide +kernel
theorem dX1_needed_9 : decode cX1_needed 9 = .ok (.invokevirtual 35, 3) := by decide +kernel
theorem dX1_needed_12 : decode cX1_needed 12 = .ok (.ishl, 1) := by decide +kernel
theorem dX1_needed_13 : decode cX1_needed 13 = .ok (.istore_n 3, 1) := by decide +kernel
theorem dX1_needed_14 : decode cX1_needed 14 = .ok (.iload_n 2, 1) := by decide +kernel
theorem dX1_needed_15 : decode cX1_needed 15 = .ok (.ifCond .eq 83, 3) := by decide +kernel
theorem dX1_needed_18 : decode cX1_needed 18 = .ok (.iconst 0, 1) := by decide +kernel
theorem dX1_needed_19 : decode cX1_needed 19 = .ok (.istore_n 2, 1) := by decide +kernel
theorem dX1_needed_20 : decode cX1_needed 20 = .ok (.iconst 0, 1) := by decide +kernel
theorem dX1_needed_21 : decode cX1_needed 21 = .ok (.istore 4, 2) := by decide +kernel
theorem dX1_needed_23 : decode cX1_needed 23 = .ok (.iload 4, 2) := by decide +kernel
theorem dX1_needed_25 : decode cX1_needed 25 = .ok (.aload_n 0, 1) := by decide +kernel
theorem dX1_needed_26 : decode cX1_needed 26 = .ok (.getfield 17, 3) := by decide +kernel
theorem dX1_needed_29 : decode cX1_needed 29 = .ok (.if_icmp .ge 66, 3) := by decide +kernel
theorem dX1_needed_32 : decode cX1_needed 32 = .ok (.iload_n 3, 1) := by decide +kernel
theorem dX1_needed_33 : decode cX1_needed 33 = .ok (.iload 4, 2) := by decide +kernel
theorem dX1_needed_35 : decode cX1_needed 35 = .ok (.ishr, 1) := by decide +kernel
theorem dX1_needed_36 : decode cX1_needed 36 = .ok (.iconst 1, 1) := by decide +kernel
theorem dX1_needed_37 : decode cX1_needed 37 = .ok (.iand, 1) := by decide +kernel
theorem dX1_needed_38 : decode cX1_needed 38 = .ok (.ifCond .eq 51, 3) := by decide +kernel
theorem dX1_needed_41 : decode cX1_needed 41 = .ok (.iload_n 3, 1) := by decide +kernel
theorem dX1_needed_42 : decode cX1_needed 42 = .ok (.iconst 1, 1) := by decide +kernel
theorem dX1_needed_43 : decode cX1_needed 43 = .ok (.aload_n 0, 1) := by decide +kernel
theorem dX1_needed_44 : decode cX1_needed 44 = .ok (.getfield 7, 3) := by decide +kernel
theorem dX1_needed_47 : decode cX1_needed 47 = .ok (.iconst 2, 1) := by decide +kernel
theorem dX1_needed_48 : decode cX1_needed 48 = .ok (.iload 4, 2) := by decide +kernel
theorem dX1_needed_50 : decode cX1_needed 50 = .ok (.imul, 1) := by decide +kernel
theorem dX1_needed_51 : decode cX1_needed 51 = .ok (.iaload, 1) := by decide +kernel
theorem dX1_needed_52 : decode cX1_needed 52 = .ok (.ishl, 1) := by decide +kernel
theorem dX1_needed_53 : decode cX1_needed 53 = .ok (.ior, 1) := by decide +kernel
theorem dX1_needed_54 : decode cX1_needed 54 = .ok (.iconst 1, 1) := by decide +kernel
theorem dX1_needed_55 : decode cX1_needed 55 = .ok (.aload_n 0, 1) := by decide +kernel
theorem dX1_needed_56 : decode cX1_needed 56 = .ok (.getfield 7, 3) := by decide +kernel
theorem dX1_needed_59 : decode cX1_needed 59 = .ok (.iconst 2, 1) := by decide +kernel
theorem dX1_needed_60 : decode cX1_needed 60 = .ok (.iload 4, 2) := by decide +kernel
theorem dX1_needed_62 : decode cX1_needed 62 = .ok (.imul, 1) := by decide +kernel
theorem dX1_needed_63 : decode cX1_needed 63 = .ok (.iconst 1, 1) := by decide +kernel
theorem dX1_needed_64 : decode cX1_needed 64 = .ok (.iadd, 1) := by decide +kernel
theorem dX1_needed_65 : decode cX1_needed 65 = .ok (.iaload, 1) := by decide +kernel
theorem dX1_needed_66 : decode cX1_needed 66 = .ok (.ishl, 1) := by decide +kernel
theorem dX1_needed_67 : decode cX1_needed 67 = .ok (.ior, 1) := by decide +kernel
theorem dX1_needed_68 : decode cX1_needed 68 = .ok (.istore 5, 2) := by decide +kernel
theorem dX1_needed_70 : decode cX1_needed 70 = .ok (.iload_n 2, 1) := by decide +kernel
theorem dX1_needed_71 : decode cX1_needed 71 = .ok (.ifCond .ne 9, 3) := by decide +kernel
theorem dX1_needed_74 : decode cX1_needed 74 = .ok (.iload 5, 2) := by decide +kernel
theorem dX1_needed_76 : decode cX1_needed 76 = .ok (.iload_n 3, 1) := by decide +kernel
theorem dX1_needed_77 : decode cX1_needed 77 = .ok (.if_icmp .eq 7, 3) := by decide +kernel
theorem dX1_needed_80 : decode cX1_needed 80 = .ok (.iconst 1, 1) := by decide +kernel
theorem dX1_needed_81 : decode cX1_needed 81 = .ok (.goto 4, 3) := by decide +kernel
theorem dX1_needed_84 : decode cX1_needed 84 = .ok (.iconst 0, 1) := by decide +kernel
theorem dX1_needed_85 : decode cX1_needed 85 = .ok (.istore_n 2, 1) := by decide +kernel
theorem dX1_needed_86 : decode cX1_needed 86 = .ok (.iload 5, 2) := by decide +kernel
theorem dX1_needed_88 : decode cX1_needed 88 = .ok (.istore_n 3, 1) := by decide +kernel
theorem dX1_needed_89 : decode cX1_needed 89 = .ok (.iinc 4 1, 3) := by decide +kernel
theorem dX1_needed_92 : decode cX1_needed 92 = .ok (.goto (-69), 3) := by decide +kernel
theorem dX1_needed_95 : decode cX1_needed 95 = .ok (.goto (-81), 3) := by decide +kernel
theorem dX1_needed_98 : decode cX1_needed 98 = .ok (.iconst 0, 1) := by decide +kernel
theorem dX1_needed_99 : decode cX1_needed 99 = .ok (.istore 4, 2) := by decide +kernel
theorem dX1_needed_101 : decode cX1_needed 101 = .ok (.iconst 0, 1) := by decide +kernel
theorem dX1_needed_102 : decode cX1_needed 102 = .ok (.istore 5, 2) := by decide +kernel
theorem dX1_needed_104 : decode cX1_needed 104 = .ok (.iload 5, 2) := by decide +kernel
theorem dX1_needed_106 : decode cX1_needed 106 = .ok (.aload_n 0, 1) := by decide +kernel
theorem dX1_needed_107 : decode cX1_needed 107 = .ok (.getfield 17, 3) := by decide +kernel
theorem dX1_needed_110 : decode cX1_needed 110 = .ok (.if_icmp .ge 85, 3) := by decide +kernel
theorem dX1_needed_113 : decode cX1_needed 113 = .ok (.iload_n 3, 1) := by decide +kernel
theorem dX1_needed_114 : decode cX1_needed 114 = .ok (.iload 5, 2) := by decide +kernel
theorem dX1_needed_116 : decode cX1_needed 116 = .ok (.ishr, 1) := by decide +kernel
theorem dX1_needed_117 : decode cX1_needed 117 = .ok (.iconst 1, 1) := by decide +kernel
theorem dX1_needed_118 : decode cX1_needed 118 = .ok (.iand, 1) := by decide +kernel
theorem dX1_needed_119 : decode cX1_needed 119 = .ok (.ifCond .eq 70, 3) := by decide +kernel
theorem dX1_needed_122 : decode cX1_needed 122 = .ok (.iconst 1, 1) := by decide +kernel
theorem dX1_needed_123 : decode cX1_needed 123 = .ok (.istore 6, 2) := by decide +kernel
theorem dX1_needed_125 : decode cX1_needed 125 = .ok (.iconst 0, 1) := by decide +kernel
theorem dX1_needed_126 : decode cX1_needed 126 = .ok (.istore 7, 2) := by decide +kernel
theorem dX1_needed_128 : decode cX1_needed 128 = .ok (.iload 7, 2) := by decide +kernel
theorem dX1_needed_130 : decode cX1_needed 130 = .ok (.iload 5, 2) := by decide +kernel
theorem dX1_needed_132 : decode cX1_needed 132 = .ok (.if_icmp .ge 46, 3) := by decide +kernel
theorem dX1_needed_135 : decode cX1_needed 135 = .ok (.iload 6, 2) := by decide +kernel
theorem dX1_needed_137 : decode cX1_needed 137 = .ok (.ifCond .eq 32, 3) := by decide +kernel
theorem dX1_needed_140 : decode cX1_needed 140 = .ok (.iload_n 3, 1) := by decide +kernel
theorem dX1_needed_141 : decode cX1_needed 141 = .ok (.iload 7, 2) := by decide +kernel
theorem dX1_needed_143 : decode cX1_needed 143 = .ok (.ishr, 1) := by decide +kernel
theorem dX1_needed_144 : decode cX1_needed 144 = .ok (.iconst 1, 1) := by decide +kernel
theorem dX1_needed_145 : decode cX1_needed 145 = .ok (.iand, 1) := by decide +kernel
theorem dX1_needed_146 : decode cX1_needed 146 = .ok (.ifCond .eq 19, 3) := by decide +kernel
theorem dX1_needed_149 : decode cX1_needed 149 = .ok (.aload_n 0, 1) := by decide +kernel
theorem dX1_needed_150 : decode cX1_needed 150 = .ok (.getfield 21, 3) := by decide +kernel
theorem dX1_needed_153 : decode cX1_needed 153 = .ok (.bipush 16, 2) := by decide +kernel
theorem dX1_needed_155 : decode cX1_needed 155 = .ok (.iload 5, 2) := by decide +kernel
theorem dX1_needed_157 : decode cX1_needed 157 = .ok (.imul, 1) := by decide +kernel
theorem dX1_needed_158 : decode cX1_needed 158 = .ok (.iload 7, 2) := by decide +kernel
theorem dX1_needed_160 : decode cX1_needed 160 = .ok (.iadd, 1) := by decide +kernel
theorem dX1_needed_161 : decode cX1_needed 161 = .ok (.baload, 1) := by decide +kernel
theorem dX1_needed_162 : decode cX1_needed 162 = .ok (.ifCond .eq 7, 3) := by decide +kernel
theorem dX1_needed_165 : decode cX1_needed 165 = .ok (.iconst 1, 1) := by decide +kernel
theorem dX1_needed_166 : decode cX1_needed 166 = .ok (.goto 4, 3) := by decide +kernel
theorem dX1_needed_169 : decode cX1_needed 169 = .ok (.iconst 0, 1) := by decide +kernel
theorem dX1_needed_170 : decode cX1_needed 170 = .ok (.istore 6, 2) := by decide +kernel
theorem dX1_needed_172 : decode cX1_needed 172 = .ok (.iinc 7 1, 3) := by decide +kernel
theorem dX1_needed_175 : decode cX1_needed 175 = .ok (.goto (-47), 3) := by decide +kernel
theorem dX1_needed_178 : decode cX1_needed 178 = .ok (.iload 6, 2) := by decide +kernel
theorem dX1_needed_180 : decode cX1_needed 180 = .ok (.ifCond .eq 9, 3) := by decide +kernel
theorem dX1_needed_183 : decode cX1_needed 183 = .ok (.iload 4, 2) := by decide +kernel
theorem dX1_needed_185 : decode cX1_needed 185 = .ok (.iconst 1, 1) := by decide +kernel
theorem dX1_needed_186 : decode cX1_needed 186 = .ok (.iadd, 1) := by decide +kernel
theorem dX1_needed_187 : decode cX1_needed 187 = .ok (.istore 4, 2) := by decide +kernel
theorem dX1_needed_189 : decode cX1_needed 189 = .ok (.iinc 5 1, 3) := by decide +kernel
theorem dX1_needed_192 : decode cX1_needed 192 = .ok (.goto (-88), 3) := by decide +kernel
theorem dX1_needed_195 : decode cX1_needed 195 = .ok (.iload 4, 2) := by decide +kernel
theorem dX1_needed_197 : decode cX1_needed 197 = .ok (.ireturn, 1) := by decide +kernel
abbrev cX1_witness : ByteArray := prog_3_method_11_code
def yX1_witness : MethodName := ⟨RX1, "witness", "(II)I"⟩
theorem dX1_witness_0 : decode cX1_witness 0 = .ok (.aload_n 0, 1) := by decide +kernel
theorem dX1_witness_1 : decode cX1_witness 1 = .ok (.iload_n 1, 1) := by decide +kernel
theorem dX1_witness_2 : decode cX1_witness 2 = .ok (.iload_n 2, 1) := by decide +kernel
theorem dX1_witness_3 : decode cX1_witness 3 = .ok (.invokevirtual 46, 3) := by decide +kernel
theorem dX1_witness_6 : decode cX1_witness 6 = .ok (.ifCond .eq 5, 3) := by decide +kernel
theorem dX1_witness_9 : decode cX1_witness 9 = .ok (.iconst 0, 1) := by decide +kernel
theorem dX1_witness_10 : decode cX1_witness 10 = .ok (.ireturn, 1) := by decide +kernel
theorem dX1_witness_11 : decode cX1_witness 11 = .ok (.aload_n 0, 1) := by decide +kernel
theorem dX1_witness_12 : decode cX1_witness 12 = .ok (.invokevirtual 50, 3) := by decide +kernel
theorem dX1_witness_15 : decode cX1_witness 15 = .ok (.aload_n 0, 1) := by decide +kernel
theorem dX1_witness_16 : decode cX1_witness 16 = .ok (.iload_n 1, 1) := by decide +kernel
theorem dX1_witness_17 : decode cX1_witness 17 = .ok (.invokevirtual 35, 3) := by decide +kernel
theorem dX1_witness_20 : decode cX1_witness 20 = .ok (.istore_n 3, 1) := by decide +kernel
theorem dX1_witness_21 : decode cX1_witness 21 = .ok (.aload_n 0, 1) := by decide +kernel
theorem dX1_witness_22 : decode cX1_witness 22 = .ok (.iload_n 2, 1) := by decide +kernel
theorem dX1_witness_23 : decode cX1_witness 23 = .ok (.invokevirtual 35, 3) := by decide +kernel
theorem dX1_witness_26 : decode cX1_witness 26 = .ok (.istore 4, 2) := by decide +kernel
theorem dX1_witness_28 : decode cX1_witness 28 = .ok (.iconst 1, 1) := by decide +kernel
theorem dX1_witness_29 : decode cX1_witness 29 = .ok (.istore 5, 2) := by decide +kernel
theorem dX1_witness_31 : decode cX1_witness 31 = .ok (.aload_n 0, 1) := by decide +kernel
theorem dX1_witness_32 : decode cX1_witness 32 = .ok (.getfield 13, 3) := by decide +kernel
theorem dX1_witness_35 : decode cX1_witness 35 = .ok (.iload_n 3, 1) := by decide +kernel
theorem dX1_witness_36 : decode cX1_witness 36 = .ok (.baload, 1) := by decide +kernel
theorem dX1_witness_37 : decode cX1_witness 37 = .ok (.aload_n 0, 1) := by decide +kernel
theorem dX1_witness_38 : decode cX1_witness 38 = .ok (.getfield 13, 3) := by decide +kernel
theorem dX1_witness_41 : decode cX1_witness 41 = .ok (.iload 4, 2) := by decide +kernel
theorem dX1_witness_43 : decode cX1_witness 43 = .ok (.baload, 1) := by decide +kernel
theorem dX1_witness_44 : decode cX1_witness 44 = .ok (.if_icmp .ne 118, 3) := by decide +kernel
theorem dX1_witness_47 : decode cX1_witness 47 = .ok (.iconst (-1), 1) := by decide +kernel
theorem dX1_witness_48 : decode cX1_witness 48 = .ok (.istore 6, 2) := by decide +kernel
theorem dX1_witness_50 : decode cX1_witness 50 = .ok (.bipush 99, 2) := by decide +kernel
theorem dX1_witness_52 : decode cX1_witness 52 = .ok (.istore 7, 2) := by decide +kernel
theorem dX1_witness_54 : decode cX1_witness 54 = .ok (.iconst 1, 1) := by decide +kernel
theorem dX1_witness_55 : decode cX1_witness 55 = .ok (.istore 8, 2) := by decide +kernel
theorem dX1_witness_57 : decode cX1_witness 57 = .ok (.iload 8, 2) := by decide +kernel
theorem dX1_witness_59 : decode cX1_witness 59 = .ok (.ifCond .lt 65, 3) := by decide +kernel
theorem dX1_witness_62 : decode cX1_witness 62 = .ok (.aload_n 0, 1) := by decide +kernel
theorem dX1_witness_63 : decode cX1_witness 63 = .ok (.getfield 24, 3) := by decide +kernel
theorem dX1_witness_66 : decode cX1_witness 66 = .ok (.bipush 16, 2) := by decide +kernel
theorem dX1_witness_68 : decode cX1_witness 68 = .ok (.aload_n 0, 1) := by decide +kernel
theorem dX1_witness_69 : decode cX1_witness 69 = .ok (.getfield 7, 3) := by decide +kernel
theorem dX1_witness_72 : decode cX1_witness 72 = .ok (.iconst 2, 1) := by decide +kernel
theorem dX1_witness_73 : decode cX1_witness 73 = .ok (.iload_n 3, 1) := by decide +kernel
theorem dX1_witness_74 : decode cX1_witness 74 = .ok (.imul, 1) := by decide +kernel
theorem dX1_witness_75 : decode cX1_witness 75 = .ok (.iload 8, 2) := by decide +kernel
theorem dX1_witness_77 : decode cX1_witness 77 = .ok (.iadd, 1) := by decide +kernel
theorem dX1_witness_78 : decode cX1_witness 78 = .ok (.iaload, 1) := by decide +kernel
theorem dX1_witness_79 : decode cX1_witness 79 = .ok (.imul, 1) := by decide +kernel
theorem dX1_witness_80 : decode cX1_witness 80 = .ok (.aload_n 0, 1) := by decide +kernel
theorem dX1_witness_81 : decode cX1_witness 81 = .ok (.getfield 7, 3) := by decide +kernel
theorem dX1_witness_84 : decode cX1_witness 84 = .ok (.iconst 2, 1) := by decide +kernel
theorem dX1_witness_85 : decode cX1_witness 85 = .ok (.iload 4, 2) := by decide +kernel
theorem dX1_witness_87 : decode cX1_witness 87 = .ok (.imul, 1) := by decide +kernel
theorem dX1_witness_88 : decode cX1_witness 88 = .ok (.iload 8, 2) := by decide +kernel
theorem dX1_witness_90 : decode cX1_witness 90 = .ok (.iadd, 1) := by decide +kernel
theorem dX1_witness_91 : decode cX1_witness 91 = .ok (.iaload, 1) := by decide +kernel
theorem dX1_witness_92 : decode cX1_witness 92 = .ok (.iadd, 1) := by decide +kernel
theorem dX1_witness_93 : decode cX1_witness 93 = .ok (.iaload, 1) := by decide +kernel
theorem dX1_witness_94 : decode cX1_witness 94 = .ok (.istore 9, 2) := by decide +kernel
theorem dX1_witness_96 : decode cX1_witness 96 = .ok (.iload 9, 2) := by decide +kernel
theorem dX1_witness_98 : decode cX1_witness 98 = .ok (.iload 7, 2) := by decide +kernel
theorem dX1_witness_100 : decode cX1_witness 100 = .ok (.if_icmp .gt 18, 3) := by decide +kernel
theorem dX1_witness_103 : decode cX1_witness 103 = .ok (.iload 9, 2) := by decide +kernel
theorem dX1_witness_105 : decode cX1_witness 105 = .ok (.bipush 99, 2) := by decide +kernel
theorem dX1_witness_107 : decode cX1_witness 107 = .ok (.if_icmp .ge 11, 3) := by decide +kernel
theorem dX1_witness_110 : decode cX1_witness 110 = .ok (.iload 9, 2) := by decide +kernel
theorem dX1_witness_112 : decode cX1_witness 112 = .ok (.istore 7, 2) := by decide +kernel
theorem dX1_witness_114 : decode cX1_witness 114 = .ok (.iload 8, 2) := by decide +kernel
theorem dX1_witness_116 : decode cX1_witness 116 = .ok (.istore 6, 2) := by decide +kernel
theorem dX1_witness_118 : decode cX1_witness 118 = .ok (.iinc 8 (-1), 3) := by decide +kernel
theorem dX1_witness_121 : decode cX1_witness 121 = .ok (.goto (-64), 3) := by decide +kernel
theorem dX1_witness_124 : decode cX1_witness 124 = .ok (.iconst 2, 1) := by decide +kernel
theorem dX1_witness_125 : decode cX1_witness 125 = .ok (.iload 5, 2) := by decide +kernel
theorem dX1_witness_127 : decode cX1_witness 127 = .ok (.imul, 1) := by decide +kernel
theorem dX1_witness_128 : decode cX1_witness 128 = .ok (.iload 6, 2) := by decide +kernel
theorem dX1_witness_130 : decode cX1_witness 130 = .ok (.iadd, 1) := by decide +kernel
theorem dX1_witness_131 : decode cX1_witness 131 = .ok (.istore 5, 2) := by decide +kernel
theorem dX1_witness_133 : decode cX1_witness 133 = .ok (.aload_n 0, 1) := by decide +kernel
theorem dX1_witness_134 : decode cX1_witness 134 = .ok (.getfield 7, 3) := by decide +kernel
theorem dX1_witness_137 : decode cX1_witness 137 = .ok (.iconst 2, 1) := by decide +kernel
theorem dX1_witness_138 : decode cX1_witness 138 = .ok (.iload_n 3, 1) := by decide +kernel
theorem dX1_witness_139 : decode cX1_witness 139 = .ok (.imul, 1) := by decide +kernel
theorem dX1_witness_140 : decode cX1_witness 140 = .ok (.iload 6, 2) := by decide +kernel
theorem dX1_witness_142 : decode cX1_witness 142 = .ok (.iadd, 1) := by decide +kernel
theorem dX1_witness_143 : decode cX1_witness 143 = .ok (.iaload, 1) := by decide +kernel
theorem dX1_witness_144 : decode cX1_witness 144 = .ok (.istore_n 3, 1) := by decide +kernel
theorem dX1_witness_145 : decode cX1_witness 145 = .ok (.aload_n 0, 1) := by decide +kernel
theorem dX1_witness_146 : decode cX1_witness 146 = .ok (.getfield 7, 3) := by decide +kernel
theorem dX1_witness_149 : decode cX1_witness 149 = .ok (.iconst 2, 1) := by decide +kernel
theorem dX1_witness_150 : decode cX1_witness 150 = .ok (.iload 4, 2) := by decide +kernel
theorem dX1_witness_152 : decode cX1_witness 152 = .ok (.imul, 1) := by decide +kernel
theorem dX1_witness_153 : decode cX1_witness 153 = .ok (.iload 6, 2) := by decide +kernel
theorem dX1_witness_155 : decode cX1_witness 155 = .ok (.iadd, 1) := by decide +kernel
theorem dX1_witness_156 : decode cX1_witness 156 = .ok (.iaload, 1) := by decide +kernel
theorem dX1_witness_157 : decode cX1_witness 157 = .ok (.istore 4, 2) := by decide +kernel
theorem dX1_witness_159 : decode cX1_witness 159 = .ok (.goto (-128), 3) := by decide +kernel
theorem dX1_witness_162 : decode cX1_witness 162 = .ok (.iload 5, 2) := by decide +kernel
theorem dX1_witness_164 : decode cX1_witness 164 = .ok (.ireturn, 1) := by decide +kernel
end
section
set_option maxRecDepth 100000
abbrev cX1_far : ByteArray := prog_3_method_12_code
def yX1_far : MethodName := ⟨RX1, "far", "()V"⟩
theorem dX1_far_0 : decode cX1_far 0 = .ok (.iconst 0, 1) := by decide +kernel
theorem dX1_far_1 : decode cX1_far 1 = .ok (.istore_n 1, 1) := by decide +kernel
theorem dX1_far_2 : decode cX1_far 2 = .ok (.iload_n 1, 1) := by decide +kernel
theorem dX1_far_3 : decode cX1_far 3 = .ok (.sipush 256, 3) := by decide +kernel
theorem dX1_far_6 : decode cX1_far 6 = .ok (.if_icmp .ge 64, 3) := by decide +kernel
theorem dX1_far_9 : decode cX1_far 9 = .ok (.aload_n 0, 1) := by decide +kernel
theorem dX1_far_10 : decode cX1_far 10 = .ok (.getfield 24, 3) := by decide +kernel
theorem dX1_far_13 : decode cX1_far 13 = .ok (.iload_n 1, 1) := by decide +kernel
theorem dX1_far_14 : decode cX1_far 14 = .ok (.iload_n 1, 1) := by decide +kernel
theorem dX1_far_15 : decode cX1_far 15 = .ok (.bipush 16, 2) := by decide +kernel
theorem dX1_far_17 : decode cX1_far 17 = .ok (.idiv, 1) := by decide +kernel
theorem dX1_far_18 : decode cX1_far 18 = .ok (.aload_n 0, 1) := by decide +kernel
theorem dX1_far_19 : decode cX1_far 19 = .ok (.getfield 17, 3) := by decide +kernel
theorem dX1_far_22 : decode cX1_far 22 = .ok (.if_icmp .ge 39, 3) := by decide +kernel
theorem dX1_far_25 : decode cX1_far 25 = .ok (.iload_n 1, 1) := by decide +kernel
theorem dX1_far_26 : decode cX1_far 26 = .ok (.bipush 16, 2) := by decide +kernel
theorem dX1_far_28 : decode cX1_far 28 = .ok (.irem, 1) := by decide +kernel
theorem dX1_far_29 : decode cX1_far 29 = .ok (.aload_n 0, 1) := by decide +kernel
theorem dX1_far_30 : decode cX1_far 30 = .ok (.getfield 17, 3) := by decide +kernel
theorem dX1_far_33 : decode cX1_far 33 = .ok (.if_icmp .ge 28, 3) := by decide +kernel
theorem dX1_far_36 : decode cX1_far 36 = .ok (.aload_n 0, 1) := by decide +kernel
theorem dX1_far_37 : decode cX1_far 37 = .ok (.getfield 13, 3) := by decide +kernel
theorem dX1_far_40 : decode cX1_far 40 = .ok (.iload_n 1, 1) := by decide +kernel
theorem dX1_far_41 : decode cX1_far 41 = .ok (.bipush 16, 2) := by decide +kernel
theorem dX1_far_43 : decode cX1_far 43 = .ok (.idiv, 1) := by decide +kernel
theorem dX1_far_44 : decode cX1_far 44 = .ok (.baload, 1) := by decide +kernel
theorem dX1_far_45 : decode cX1_far 45 = .ok (.aload_n 0, 1) := by decide +kernel
theorem dX1_far_46 : decode cX1_far 46 = .ok (.getfield 13, 3) := by decide +kernel
theorem dX1_far_49 : decode cX1_far 49 = .ok (.iload_n 1, 1) := by decide +kernel
theorem dX1_far_50 : decode cX1_far 50 = .ok (.bipush 16, 2) := by decide +kernel
theorem dX1_far_52 : decode cX1_far 52 = .ok (.irem, 1) := by decide +kernel
theorem dX1_far_53 : decode cX1_far 53 = .ok (.baload, 1) := by decide +kernel
theorem dX1_far_54 : decode cX1_far 54 = .ok (.if_icmp .eq 7, 3) := by decide +kernel
theorem dX1_far_57 : decode cX1_far 57 = .ok (.iconst 0, 1) := by decide +kernel
theorem dX1_far_58 : decode cX1_far 58 = .ok (.goto 5, 3) := by decide +kernel
theorem dX1_far_61 : decode cX1_far 61 = .ok (.bipush 99, 2) := by decide +kernel
theorem dX1_far_63 : decode cX1_far 63 = .ok (.iastore, 1) := by decide +kernel
theorem dX1_far_64 : decode cX1_far 64 = .ok (.iinc 1 1, 3) := by decide +kernel
theorem dX1_far_67 : decode cX1_far 67 = .ok (.goto (-65), 3) := by decide +kernel
theorem dX1_far_70 : decode cX1_far 70 = .ok (.iconst 0, 1) := by decide +kernel
theorem dX1_far_71 : decode cX1_far 71 = .ok (.istore_n 1, 1) := by decide +kernel
theorem dX1_far_72 : decode cX1_far 72 = .ok (.iload_n 1, 1) := by decide +kernel
theorem dX1_far_73 : decode cX1_far 73 = .ok (.bipush 16, 2) := by decide +kernel
theorem dX1_far_75 : decode cX1_far 75 = .ok (.if_icmp .ge 120, 3) := by decide +kernel
theorem dX1_far_78 : decode cX1_far 78 = .ok (.iconst 0, 1) := by decide +kernel
theorem dX1_far_79 : decode cX1_far 79 = .ok (.istore_n 2, 1) := by decide +kernel
theorem dX1_far_80 : decode cX1_far 80 = .ok (.iload_n 2, 1) := by decide +kernel
theorem dX1_far_81 : decode cX1_far 81 = .ok (.aload_n 0, 1) := by decide +kernel
theorem dX1_far_82 : decode cX1_far 82 = .ok (.getfield 17, 3) := by decide +kernel
theorem dX1_far_85 : decode cX1_far 85 = .ok (.if_icmp .ge 104, 3) := by decide +kernel
theorem dX1_far_88 : decode cX1_far 88 = .ok (.iconst 0, 1) := by decide +kernel
theorem dX1_far_89 : decode cX1_far 89 = .ok (.istore_n 3, 1) := by decide +kernel
theorem dX1_far_90 : decode cX1_far 90 = .ok (.iload_n 3, 1) := by decide +kernel
theorem dX1_far_91 : decode cX1_far 91 = .ok (.aload_n 0, 1) := by decide +kernel
theorem dX1_far_92 : decode cX1_far 92 = .ok (.getfield 17, 3) := by decide +kernel
theorem dX1_far_95 : decode cX1_far 95 = .ok (.if_icmp .ge 88, 3) := by decide +kernel
theorem dX1_far_98 : decode cX1_far 98 = .ok (.iconst 0, 1) := by decide +kernel
theorem dX1_far_99 : decode cX1_far 99 = .ok (.istore 4, 2) := by decide +kernel
theorem dX1_far_101 : decode cX1_far 101 = .ok (.iload 4, 2) := by decide +kernel
theorem dX1_far_103 : decode cX1_far 103 = .ok (.iconst 2, 1) := by decide +kernel
theorem dX1_far_104 : decode cX1_far 104 = .ok (.if_icmp .ge 73, 3) := by decide +kernel
theorem dX1_far_107 : decode cX1_far 107 = .ok (.aload_n 0, 1) := by decide +kernel
theorem dX1_far_108 : decode cX1_far 108 = .ok (.getfield 24, 3) := by decide +kernel
theorem dX1_far_111 : decode cX1_far 111 = .ok (.bipush 16, 2) := by decide +kernel
theorem dX1_far_113 : decode cX1_far 113 = .ok (.aload_n 0, 1) := by decide +kernel
theorem dX1_far_114 : decode cX1_far 114 = .ok (.getfield 7, 3) := by decide +kernel
theorem dX1_far_117 : decode cX1_far 117 = .ok (.iconst 2, 1) := by decide +kernel
theorem dX1_far_118 : decode cX1_far 118 = .ok (.iload_n 2, 1) := by decide +kernel
theorem dX1_far_119 : decode cX1_far 119 = .ok (.imul, 1) := by decide +kernel
theorem dX1_far_120 : decode cX1_far 120 = .ok (.iload 4, 2) := by decide +kernel
theorem dX1_far_122 : decode cX1_far 122 = .ok (.iadd, 1) := by decide +kernel
theorem dX1_far_123 : decode cX1_far 123 = .ok (.iaload, 1) := by decide +kernel
theorem dX1_far_124 : decode cX1_far 124 = .ok (.imul, 1) := by decide +kernel
theorem dX1_far_125 : decode cX1_far 125 = .ok (.aload_n 0, 1) := by decide +kernel
theorem dX1_far_126 : decode cX1_far 126 = .ok (.getfield 7, 3) := by decide +kernel
theorem dX1_far_129 : decode cX1_far 129 = .ok (.iconst 2, 1) := by decide +kernel
theorem dX1_far_130 : decode cX1_far 130 = .ok (.iload_n 3, 1) := by decide +kernel
theorem dX1_far_131 : decode cX1_far 131 = .ok (.imul, 1) := by decide +kernel
theorem dX1_far_132 : decode cX1_far 132 = .ok (.iload 4, 2) := by decide +kernel
theorem dX1_far_134 : decode cX1_far 134 = .ok (.iadd, 1) := by decide +kernel
theorem dX1_far_135 : decode cX1_far 135 = .ok (.iaload, 1) := by decide +kernel
theorem dX1_far_136 : decode cX1_far 136 = .ok (.iadd, 1) := by decide +kernel
theorem dX1_far_137 : decode cX1_far 137 = .ok (.iaload, 1) := by decide +kernel
theorem dX1_far_138 : decode cX1_far 138 = .ok (.iconst 1, 1) := by decide +kernel
theorem dX1_far_139 : decode cX1_far 139 = .ok (.iadd, 1) := by decide +kernel
theorem dX1_far_140 : decode cX1_far 140 = .ok (.istore 5, 2) := by decide +kernel
theorem dX1_far_142 : decode cX1_far 142 = .ok (.iload 5, 2) := by decide +kernel
theorem dX1_far_144 : decode cX1_far 144 = .ok (.aload_n 0, 1) := by decide +kernel
theorem dX1_far_145 : decode cX1_far 145 = .ok (.getfield 24, 3) := by decide +kernel
theorem dX1_far_148 : decode cX1_far 148 = .ok (.bipush 16, 2) := by decide +kernel
theorem dX1_far_150 : decode cX1_far 150 = .ok (.iload_n 2, 1) := by decide +kernel
theorem dX1_far_151 : decode cX1_far 151 = .ok (.imul, 1) := by decide +kernel
theorem dX1_far_152 : decode cX1_far 152 = .ok (.iload_n 3, 1) := by decide +kernel
theorem dX1_far_153 : decode cX1_far 153 = .ok (.iadd, 1) := by decide +kernel
theorem dX1_far_154 : decode cX1_far 154 = .ok (.iaload, 1) := by decide +kernel
theorem dX1_far_155 : decode cX1_far 155 = .ok (.if_icmp .ge 16, 3) := by decide +kernel
theorem dX1_far_158 : decode cX1_far 158 = .ok (.aload_n 0, 1) := by decide +kernel
theorem dX1_far_159 : decode cX1_far 159 = .ok (.getfield 24, 3) := by decide +kernel
theorem dX1_far_162 : decode cX1_far 162 = .ok (.bipush 16, 2) := by decide +kernel
theorem dX1_far_164 : decode cX1_far 164 = .ok (.iload_n 2, 1) := by decide +kernel
theorem dX1_far_165 : decode cX1_far 165 = .ok (.imul, 1) := by decide +kernel
theorem dX1_far_166 : decode cX1_far 166 = .ok (.iload_n 3, 1) := by decide +kernel
theorem dX1_far_167 : decode cX1_far 167 = .ok (.iadd, 1) := by decide +kernel
theorem dX1_far_168 : decode cX1_far 168 = .ok (.iload 5, 2) := by decide +kernel
theorem dX1_far_170 : decode cX1_far 170 = .ok (.iastore, 1) := by decide +kernel
theorem dX1_far_171 : decode cX1_far 171 = .ok (.iinc 4 1, 3) := by decide +kernel
theorem dX1_far_174 : decode cX1_far 174 = .ok (.goto (-73), 3) := by decide +kernel
theorem dX1_far_177 : decode cX1_far 177 = .ok (.iinc 3 1, 3) := by decide +kernel
theorem dX1_far_180 : decode cX1_far 180 = .ok (.goto (-90), 3) := by decide +kernel
theorem dX1_far_183 : decode cX1_far 183 = .ok (.iinc 2 1, 3) := by decide +kernel
theorem dX1_far_186 : decode cX1_far 186 = .ok (.goto (-106), 3) := by decide +kernel
theorem dX1_far_189 : decode cX1_far 189 = .ok (.iinc 1 1, 3) := by decide +kernel
theorem dX1_far_192 : decode cX1_far 192 = .ok (.goto (-120), 3) := by decide +kernel
theorem dX1_far_195 : decode cX1_far 195 = .ok (.return_, 1) := by decide +kernel
abbrev cX1_words : ByteArray := prog_3_method_13_code
def yX1_words : MethodName := ⟨RX1, "words", "(II)J"⟩
theorem dX1_words_0 : decode cX1_words 0 = .ok (.iload_n 2, 1) := by decide +kernel
theorem dX1_words_1 : decode cX1_words 1 = .ok (.bipush 31, 2) := by decide +kernel
theorem dX1_words_3 : decode cX1_words 3 = .ok (.iand, 1) := by decide +kernel
theorem dX1_words_4 : decode cX1_words 4 = .ok (.istore_n 3, 1) := by decide +kernel
theorem dX1_words_5 : decode cX1_words 5 = .ok (.iconst 0, 1) := by decide +kernel
theorem dX1_words_6 : decode cX1_words 6 = .ok (.istore 4, 2) := by decide +kernel
theorem dX1_words_8 : decode cX1_words 8 = .ok (.iload 4, 2) := by decide +kernel
theorem dX1_words_10 : decode cX1_words 10 = .ok (.bipush 16, 2) := by decide +kernel
theorem dX1_words_12 : decode cX1_words 12 = .ok (.if_icmp .ge 40, 3) := by decide +kernel
theorem dX1_words_15 : decode cX1_words 15 = .ok (.aload_n 0, 1) := by decide +kernel
theorem dX1_words_16 : decode cX1_words 16 = .ok (.getfield 27, 3) := by decide +kernel
theorem dX1_words_19 : decode cX1_words 19 = .ok (.iload 4, 2) := by decide +kernel
theorem dX1_words_21 : decode cX1_words 21 = .ok (.iload 4, 2) := by decide +kernel
theorem dX1_words_23 : decode cX1_words 23 = .ok (.aload_n 0, 1) := by decide +kernel
theorem dX1_words_24 : decode cX1_words 24 = .ok (.getfield 17, 3) := by decide +kernel
theorem dX1_words_27 : decode cX1_words 27 = .ok (.if_icmp .ge 17, 3) := by decide +kernel
theorem dX1_words_30 : decode cX1_words 30 = .ok (.aload_n 0, 1) := by decide +kernel
theorem dX1_words_31 : decode cX1_words 31 = .ok (.getfield 13, 3) := by decide +kernel
theorem dX1_words_34 : decode cX1_words 34 = .ok (.iload 4, 2) := by decide +kernel
theorem dX1_words_36 : decode cX1_words 36 = .ok (.baload, 1) := by decide +kernel
theorem dX1_words_37 : decode cX1_words 37 = .ok (.ifCond .eq 7, 3) := by decide +kernel
theorem dX1_words_40 : decode cX1_words 40 = .ok (.lconst 1, 1) := by decide +kernel
theorem dX1_words_41 : decode cX1_words 41 = .ok (.goto 4, 3) := by decide +kernel
theorem dX1_words_44 : decode cX1_words 44 = .ok (.lconst 0, 1) := by decide +kernel
theorem dX1_words_45 : decode cX1_words 45 = .ok (.lastore, 1) := by decide +kernel
theorem dX1_words_46 : decode cX1_words 46 = .ok (.iinc 4 1, 3) := by decide +kernel
theorem dX1_words_49 : decode cX1_words 49 = .ok (.goto (-41), 3) := by decide +kernel
theorem dX1_words_52 : decode cX1_words 52 = .ok (.iconst 0, 1) := by decide +kernel
theorem dX1_words_53 : decode cX1_words 53 = .ok (.istore 4, 2) := by decide +kernel
theorem dX1_words_55 : decode cX1_words 55 = .ok (.iload 4, 2) := by decide +kernel
theorem dX1_words_57 : decode cX1_words 57 = .ok (.iload_n 3, 1) := by decide +kernel
theorem dX1_words_58 : decode cX1_words 58 = .ok (.if_icmp .ge 97, 3) := by decide +kernel
theorem dX1_words_61 : decode cX1_words 61 = .ok (.iconst 0, 1) := by decide +kernel
theorem dX1_words_62 : decode cX1_words 62 = .ok (.istore 5, 2) := by decide +kernel
theorem dX1_words_64 : decode cX1_words 64 = .ok (.iload 5, 2) := by decide +kernel
theorem dX1_words_66 : decode cX1_words 66 = .ok (.aload_n 0, 1) := by decide +kernel
theorem dX1_words_67 : decode cX1_words 67 = .ok (.getfield 17, 3) := by decide +kernel
theorem dX1_words_70 : decode cX1_words 70 = .ok (.if_icmp .ge 47, 3) := by decide +kernel
theorem dX1_words_73 : decode cX1_words 73 = .ok (.aload_n 0, 1) := by decide +kernel
theorem dX1_words_74 : decode cX1_words 74 = .ok (.getfield 31, 3) := by decide +kernel
theorem dX1_words_77 : decode cX1_words 77 = .ok (.iload 5, 2) := by decide +kernel
theorem dX1_words_79 : decode cX1_words 79 = .ok (.aload_n 0, 1) := by decide +kernel
theorem dX1_words_80 : decode cX1_words 80 = .ok (.getfield 27, 3) := by decide +kernel
theorem dX1_words_83 : decode cX1_words 83 = .ok (.aload_n 0, 1) := by decide +kernel
theorem dX1_words_84 : decode cX1_words 84 = .ok (.getfield 7, 3) := by decide +kernel
theorem dX1_words_87 : decode cX1_words 87 = .ok (.iconst 2, 1) := by decide +kernel
theorem dX1_words_88 : decode cX1_words 88 = .ok (.iload 5, 2) := by decide +kernel
theorem dX1_words_90 : decode cX1_words 90 = .ok (.imul, 1) := by decide +kernel
theorem dX1_words_91 : decode cX1_words 91 = .ok (.iaload, 1) := by decide +kernel
theorem dX1_words_92 : decode cX1_words 92 = .ok (.laload, 1) := by decide +kernel
theorem dX1_words_93 : decode cX1_words 93 = .ok (.aload_n 0, 1) := by decide +kernel
theorem dX1_words_94 : decode cX1_words 94 = .ok (.getfield 27, 3) := by decide +kernel
theorem dX1_words_97 : decode cX1_words 97 = .ok (.aload_n 0, 1) := by decide +kernel
theorem dX1_words_98 : decode cX1_words 98 = .ok (.getfield 7, 3) := by decide +kernel
theorem dX1_words_101 : decode cX1_words 101 = .ok (.iconst 2, 1) := by decide +kernel
theorem dX1_words_102 : decode cX1_words 102 = .ok (.iload 5, 2) := by decide +kernel
theorem dX1_words_104 : decode cX1_words 104 = .ok (.imul, 1) := by decide +kernel
theorem dX1_words_105 : decode cX1_words 105 = .ok (.iconst 1, 1) := by decide +kernel
theorem dX1_words_106 : decode cX1_words 106 = .ok (.iadd, 1) := by decide +kernel
theorem dX1_words_107 : decode cX1_words 107 = .ok (.iaload, 1) := by decide +kernel
theorem dX1_words_108 : decode cX1_words 108 = .ok (.laload, 1) := by decide +kernel
theorem dX1_words_109 : decode cX1_words 109 = .ok (.ladd, 1) := by decide +kernel
theorem dX1_words_110 : decode cX1_words 110 = .ok (.lastore, 1) := by decide +kernel
theorem dX1_words_111 : decode cX1_words 111 = .ok (.iinc 5 1, 3) := by decide +kernel
theorem dX1_words_114 : decode cX1_words 114 = .ok (.goto (-50), 3) := by decide +kernel
theorem dX1_words_117 : decode cX1_words 117 = .ok (.iconst 0, 1) := by decide +kernel
theorem dX1_words_118 : decode cX1_words 118 = .ok (.istore 5, 2) := by decide +kernel
theorem dX1_words_120 : decode cX1_words 120 = .ok (.iload 5, 2) := by decide +kernel
theorem dX1_words_122 : decode cX1_words 122 = .ok (.aload_n 0, 1) := by decide +kernel
theorem dX1_words_123 : decode cX1_words 123 = .ok (.getfield 17, 3) := by decide +kernel
theorem dX1_words_126 : decode cX1_words 126 = .ok (.if_icmp .ge 23, 3) := by decide +kernel
theorem dX1_words_129 : decode cX1_words 129 = .ok (.aload_n 0, 1) := by decide +kernel
theorem dX1_words_130 : decode cX1_words 130 = .ok (.getfield 27, 3) := by decide +kernel
theorem dX1_words_133 : decode cX1_words 133 = .ok (.iload 5, 2) := by decide +kernel
theorem dX1_words_135 : decode cX1_words 135 = .ok (.aload_n 0, 1) := by decide +kernel
theorem dX1_words_136 : decode cX1_words 136 = .ok (.getfield 31, 3) := by decide +kernel
theorem dX1_words_139 : decode cX1_words 139 = .ok (.iload 5, 2) := by decide +kernel
theorem dX1_words_141 : decode cX1_words 141 = .ok (.laload, 1) := by decide +kernel
theorem dX1_words_142 : decode cX1_words 142 = .ok (.lastore, 1) := by decide +kernel
theorem dX1_words_143 : decode cX1_words 143 = .ok (.iinc 5 1, 3) := by decide +kernel
theorem dX1_words_146 : decode cX1_words 146 = .ok (.goto (-26), 3) := by decide +kernel
theorem dX1_words_149 : decode cX1_words 149 = .ok (.iinc 4 1, 3) := by decide +kernel
theorem dX1_words_152 : decode cX1_words 152 = .ok (.goto (-97), 3) := by decide +kernel
theorem dX1_words_155 : decode cX1_words 155 = .ok (.aload_n 0, 1) := by decide +kernel
theorem dX1_words_156 : decode cX1_words 156 = .ok (.getfield 27, 3) := by decide +kernel
theorem dX1_words_159 : decode cX1_words 159 = .ok (.aload_n 0, 1) := by decide +kernel
theorem dX1_words_160 : decode cX1_words 160 = .ok (.iload_n 1, 1) := by decide +kernel
theorem dX1_words_161 : decode cX1_words 161 = .ok (.invokevirtual 35, 3) := by decide +kernel
theorem dX1_words_164 : decode cX1_words 164 = .ok (.laload, 1) := by decide +kernel
theorem dX1_words_165 : decode cX1_words 165 = .ok (.lreturn, 1) := by decide +kernel
theorem q15 : (Jvm.Cond.initialized "StateDeskModel") ∈ lw_all := lw_g (lw_at lw_m0 2 rfl) rfl
theorem q167 : (Jvm.Cond.instantiable "StateDeskModel" (7 : Nat)) ∈ lw_all := lw_g (lw_at lw_m0 154 rfl) rfl
theorem q169 : (Jvm.Cond.instanceMethod ({ cls := "StateDeskModel", name := "<init>", desc := "()V" } : Jvm.MethodName)) ∈ lw_all := lw_g (lw_at lw_m0 156 rfl) rfl
theorem q170 : (Jvm.Cond.code ({ cls := "StateDeskModel", name := "<init>", desc := "()V" } : Jvm.MethodName) prog_3_method_1_code (1 : Nat) (Option.none : Option Jvm.ClassFile.FieldType)) ∈ lw_all := lw_g (lw_at lw_m0 157 rfl) rfl
theorem q171 : (Jvm.Cond.methodLink "StateDeskModel" (1 : Nat) ({ cls := "java/lang/Object", name := "<init>", desc := "()V" } : Jvm.MethodName)) ∈ lw_all := lw_g (lw_at lw_m0 158 rfl) rfl
theorem q172 : (Jvm.Cond.fieldLink "StateDeskModel" (7 : Nat) "StateDeskModel" "go" "[I") ∈ lw_all := lw_g (lw_at lw_m0 159 rfl) rfl
theorem q173 : (Jvm.Cond.fieldLink "StateDeskModel" (13 : Nat) "StateDeskModel" "end" "[Z") ∈ lw_all := lw_g (lw_at lw_m0 160 rfl) rfl
theorem q174 : (Jvm.Cond.fieldLink "StateDeskModel" (17 : Nat) "StateDeskModel" "n" "I") ∈ lw_all := lw_g (lw_at lw_m0 161 rfl) rfl
theorem q175 : (Jvm.Cond.fieldLink "StateDeskModel" (21 : Nat) "StateDeskModel" "apart" "[Z") ∈ lw_all := lw_g (lw_at lw_m0 162 rfl) rfl
theorem q176 : (Jvm.Cond.fieldLink "StateDeskModel" (24 : Nat) "StateDeskModel" "dist" "[I") ∈ lw_all := lw_g (lw_at lw_m0 163 rfl) rfl
theorem q177 : (Jvm.Cond.fieldLink "StateDeskModel" (27 : Nat) "StateDeskModel" "ways" "[J") ∈ lw_all := lw_g (lw_at lw_m0 164 rfl) rfl
theorem q178 : (Jvm.Cond.fieldLink "StateDeskModel" (31 : Nat) "StateDeskModel" "next" "[J") ∈ lw_all := lw_g (lw_at lw_m0 165 rfl) rfl
theorem q179 : (Jvm.Cond.laysFinal "StateDeskModel" "StateDeskModel" "go" "[I") ∈ lw_all := lw_g (lw_at lw_m0 166 rfl) rfl
theorem q180 : (Jvm.Cond.soleField "StateDeskModel" "go") ∈ lw_all := lw_g (lw_at lw_m0 167 rfl) rfl
theorem q181 : (Jvm.Cond.laysFinal "StateDeskModel" "StateDeskModel" "end" "[Z") ∈ lw_all := lw_g (lw_at lw_m0 168 rfl) rfl
theorem q182 : (Jvm.Cond.soleField "StateDeskModel" "end") ∈ lw_all := lw_g (lw_at lw_m0 169 rfl) rfl
theorem q183 : (Jvm.Cond.lays "StateDeskModel" "StateDeskModel" "n" "I") ∈ lw_all := lw_g (lw_at lw_m0 170 rfl) rfl
theorem q184 : (Jvm.Cond.soleField "StateDeskModel" "n") ∈ lw_all := lw_g (lw_at lw_m0 171 rfl) rfl
theorem q185 : (Jvm.Cond.laysFinal "StateDeskModel" "StateDeskModel" "apart" "[Z") ∈ lw_all := lw_g (lw_at lw_m0 172 rfl) rfl
theorem q186 : (Jvm.Cond.soleField "StateDeskModel" "apart") ∈ lw_all := lw_g (lw_at lw_m0 173 rfl) rfl
theorem q187 : (Jvm.Cond.laysFinal "StateDeskModel" "StateDeskModel" "dist" "[I") ∈ lw_all := lw_g (lw_at lw_m0 174 rfl) rfl
theorem q188 : (Jvm.Cond.soleField "StateDeskModel" "dist") ∈ lw_all := lw_g (lw_at lw_m0 175 rfl) rfl
theorem q189 : (Jvm.Cond.laysFinal "StateDeskModel" "StateDeskModel" "ways" "[J") ∈ lw_all := lw_g (lw_at lw_m0 176 rfl) rfl
theorem q190 : (Jvm.Cond.soleField "StateDeskModel" "ways") ∈ lw_all := lw_g (lw_at lw_m0 177 rfl) rfl
theorem q191 : (Jvm.Cond.laysFinal "StateDeskModel" "StateDeskModel" "next" "[J") ∈ lw_all := lw_g (lw_at lw_m0 178 rfl) rfl
theorem q192 : (Jvm.Cond.soleField "StateDeskModel" "next") ∈ lw_all := lw_g (lw_at lw_m0 179 rfl) rfl
theorem q193 : (Jvm.Cond.superclass "StateDeskModel" "java/lang/Object") ∈ lw_all := lw_g (lw_at lw_m0 180 rfl) rfl
theorem q195 : (Jvm.Cond.instanceMethod ({ cls := "StateDeskModel", name := "states", desc := "(I)V" } : Jvm.MethodName)) ∈ lw_all := lw_g (lw_at lw_m0 182 rfl) rfl
theorem q196 : (Jvm.Cond.selects "StateDeskModel" ({ cls := "StateDeskModel", name := "states", desc := "(I)V" } : Jvm.MethodName) ({ cls := "StateDeskModel", name := "states", desc := "(I)V" } : Jvm.MethodName)) ∈ lw_all := lw_g (lw_at lw_m0 183 rfl) rfl
theorem q197 : (Jvm.Cond.code ({ cls := "StateDeskModel", name := "states", desc := "(I)V" } : Jvm.MethodName) prog_3_method_2_code (3 : Nat) (Option.none : Option Jvm.ClassFile.FieldType)) ∈ lw_all := lw_g (lw_at lw_m0 184 rfl) rfl
theorem q199 : (Jvm.Cond.instanceMethod ({ cls := "StateDeskModel", name := "set", desc := "(IIII)V" } : Jvm.MethodName)) ∈ lw_all := lw_g (lw_at lw_m0 186 rfl) rfl
theorem q200 : (Jvm.Cond.selects "StateDeskModel" ({ cls := "StateDeskModel", name := "set", desc := "(IIII)V" } : Jvm.MethodName) ({ cls := "StateDeskModel", name := "set", desc := "(IIII)V" } : Jvm.MethodName)) ∈ lw_all := lw_g (lw_at lw_m0 187 rfl) rfl
theorem q201 : (Jvm.Cond.code ({ cls := "StateDeskModel", name := "set", desc := "(IIII)V" } : Jvm.MethodName) prog_3_method_4_code (6 : Nat) (Option.none : Option Jvm.ClassFile.FieldType)) ∈ lw_all := lw_g (lw_at lw_m0 188 rfl) rfl
theorem q202 : (Jvm.Cond.methodLink "StateDeskModel" (35 : Nat) ({ cls := "StateDeskModel", name := "at", desc := "(I)I" } : Jvm.MethodName)) ∈ lw_all := lw_g (lw_at lw_m0 189 rfl) rfl
theorem q203 : (Jvm.Cond.privateMethod ({ cls := "StateDeskModel", name := "at", desc := "(I)I" } : Jvm.MethodName)) ∈ lw_tbl := lw_at lw_m0 190 rfl
theorem q204 : (Jvm.Cond.instanceMethod ({ cls := "StateDeskModel", name := "at", desc := "(I)I" } : Jvm.MethodName)) ∈ lw_all := lw_g (lw_at lw_m0 191 rfl) rfl
theorem q205 : (Jvm.Cond.code ({ cls := "StateDeskModel", name := "at", desc := "(I)I" } : Jvm.MethodName) prog_3_method_3_code (2 : Nat) (Option.some Jvm.ClassFile.FieldType.int)) ∈ lw_all := lw_g (lw_at lw_m0 192 rfl) rfl
theorem q206 : (Jvm.Cond.constant "StateDeskModel" (34 : Nat) (2147483647 : Int32)) ∈ lw_all := lw_g (lw_at lw_m0 193 rfl) rfl
theorem q208 : (Jvm.Cond.instanceMethod ({ cls := "StateDeskModel", name := "takes", desc := "(III)Z" } : Jvm.MethodName)) ∈ lw_all := lw_g (lw_at lw_m0 195 rfl) rfl
theorem q209 : (Jvm.Cond.selects "StateDeskModel" ({ cls := "StateDeskModel", name := "takes", desc := "(III)Z" } : Jvm.MethodName) ({ cls := "StateDeskModel", name := "takes", desc := "(III)Z" } : Jvm.MethodName)) ∈ lw_all := lw_g (lw_at lw_m0 196 rfl) rfl
theorem q210 : (Jvm.Cond.code ({ cls := "StateDeskModel", name := "takes", desc := "(III)Z" } : Jvm.MethodName) prog_3_method_6_code (4 : Nat) (Option.some Jvm.ClassFile.FieldType.boolean)) ∈ lw_all := lw_g (lw_at lw_m0 197 rfl) rfl
theorem q211 : (Jvm.Cond.methodLink "StateDeskModel" (39 : Nat) ({ cls := "StateDeskModel", name := "walk", desc := "(III)I" } : Jvm.MethodName)) ∈ lw_all := lw_g (lw_at lw_m0 198 rfl) rfl
theorem q212 : (Jvm.Cond.privateMethod ({ cls := "StateDeskModel", name := "walk", desc := "(III)I" } : Jvm.MethodName)) ∈ lw_tbl := lw_at lw_m0 199 rfl
theorem q213 : (Jvm.Cond.instanceMethod ({ cls := "StateDeskModel", name := "walk", desc := "(III)I" } : Jvm.MethodName)) ∈ lw_all := lw_g (lw_at lw_m0 200 rfl) rfl
theorem q214 : (Jvm.Cond.code ({ cls := "StateDeskModel", name := "walk", desc := "(III)I" } : Jvm.MethodName) prog_3_method_5_code (6 : Nat) (Option.some Jvm.ClassFile.FieldType.int)) ∈ lw_all := lw_g (lw_at lw_m0 201 rfl) rfl
theorem q216 : (Jvm.Cond.instanceMethod ({ cls := "StateDeskModel", name := "same", desc := "(II)Z" } : Jvm.MethodName)) ∈ lw_all := lw_g (lw_at lw_m0 203 rfl) rfl
theorem q217 : (Jvm.Cond.selects "StateDeskModel" ({ cls := "StateDeskModel", name := "same", desc := "(II)Z" } : Jvm.MethodName) ({ cls := "StateDeskModel", name := "same", desc := "(II)Z" } : Jvm.MethodName)) ∈ lw_all := lw_g (lw_at lw_m0 204 rfl) rfl
theorem q218 : (Jvm.Cond.code ({ cls := "StateDeskModel", name := "same", desc := "(II)Z" } : Jvm.MethodName) prog_3_method_8_code (3 : Nat) (Option.some Jvm.ClassFile.FieldType.boolean)) ∈ lw_all := lw_g (lw_at lw_m0 205 rfl) rfl
theorem q219 : (Jvm.Cond.methodLink "StateDeskModel" (43 : Nat) ({ cls := "StateDeskModel", name := "reckon", desc := "()V" } : Jvm.MethodName)) ∈ lw_all := lw_g (lw_at lw_m0 206 rfl) rfl
theorem q220 : (Jvm.Cond.privateMethod ({ cls := "StateDeskModel", name := "reckon", desc := "()V" } : Jvm.MethodName)) ∈ lw_tbl := lw_at lw_m0 207 rfl
theorem q221 : (Jvm.Cond.instanceMethod ({ cls := "StateDeskModel", name := "reckon", desc := "()V" } : Jvm.MethodName)) ∈ lw_all := lw_g (lw_at lw_m0 208 rfl) rfl
theorem q222 : (Jvm.Cond.code ({ cls := "StateDeskModel", name := "reckon", desc := "()V" } : Jvm.MethodName) prog_3_method_7_code (4 : Nat) (Option.none : Option Jvm.ClassFile.FieldType)) ∈ lw_all := lw_g (lw_at lw_m0 209 rfl) rfl
theorem q224 : (Jvm.Cond.instanceMethod ({ cls := "StateDeskModel", name := "kinds", desc := "()I" } : Jvm.MethodName)) ∈ lw_all := lw_g (lw_at lw_m0 211 rfl) rfl
theorem q225 : (Jvm.Cond.selects "StateDeskModel" ({ cls := "StateDeskModel", name := "kinds", desc := "()I" } : Jvm.MethodName) ({ cls := "StateDeskModel", name := "kinds", desc := "()I" } : Jvm.MethodName)) ∈ lw_all := lw_g (lw_at lw_m0 212 rfl) rfl
theorem q226 : (Jvm.Cond.code ({ cls := "StateDeskModel", name := "kinds", desc := "()I" } : Jvm.MethodName) prog_3_method_9_code (5 : Nat) (Option.some Jvm.ClassFile.FieldType.int)) ∈ lw_all := lw_g (lw_at lw_m0 213 rfl) rfl
theorem q228 : (Jvm.Cond.instanceMethod ({ cls := "StateDeskModel", name := "needed", desc := "(I)I" } : Jvm.MethodName)) ∈ lw_all := lw_g (lw_at lw_m0 215 rfl) rfl
theorem q229 : (Jvm.Cond.selects "StateDeskModel" ({ cls := "StateDeskModel", name := "needed", desc := "(I)I" } : Jvm.MethodName) ({ cls := "StateDeskModel", name := "needed", desc := "(I)I" } : Jvm.MethodName)) ∈ lw_all := lw_g (lw_at lw_m0 216 rfl) rfl
theorem q230 : (Jvm.Cond.code ({ cls := "StateDeskModel", name := "needed", desc := "(I)I" } : Jvm.MethodName) prog_3_method_10_code (8 : Nat) (Option.some Jvm.ClassFile.FieldType.int)) ∈ lw_all := lw_g (lw_at lw_m0 217 rfl) rfl
theorem q232 : (Jvm.Cond.instanceMethod ({ cls := "StateDeskModel", name := "witness", desc := "(II)I" } : Jvm.MethodName)) ∈ lw_all := lw_g (lw_at lw_m0 219 rfl) rfl
theorem q233 : (Jvm.Cond.selects "StateDeskModel" ({ cls := "StateDeskModel", name := "witness", desc := "(II)I" } : Jvm.MethodName) ({ cls := "StateDeskModel", name := "witness", desc := "(II)I" } : Jvm.MethodName)) ∈ lw_all := lw_g (lw_at lw_m0 220 rfl) rfl
theorem q234 : (Jvm.Cond.code ({ cls := "StateDeskModel", name := "witness", desc := "(II)I" } : Jvm.MethodName) prog_3_method_11_code (10 : Nat) (Option.some Jvm.ClassFile.FieldType.int)) ∈ lw_all := lw_g (lw_at lw_m0 221 rfl) rfl
theorem q235 : (Jvm.Cond.methodLink "StateDeskModel" (46 : Nat) ({ cls := "StateDeskModel", name := "same", desc := "(II)Z" } : Jvm.MethodName)) ∈ lw_all := lw_g (lw_at lw_m0 222 rfl) rfl
theorem q236 : (Jvm.Cond.methodLink "StateDeskModel" (50 : Nat) ({ cls := "StateDeskModel", name := "far", desc := "()V" } : Jvm.MethodName)) ∈ lw_all := lw_g (lw_at lw_m0 223 rfl) rfl
theorem q237 : (Jvm.Cond.privateMethod ({ cls := "StateDeskModel", name := "far", desc := "()V" } : Jvm.MethodName)) ∈ lw_tbl := lw_at lw_m0 224 rfl
theorem q238 : (Jvm.Cond.instanceMethod ({ cls := "StateDeskModel", name := "far", desc := "()V" } : Jvm.MethodName)) ∈ lw_all := lw_g (lw_at lw_m0 225 rfl) rfl
theorem q239 : (Jvm.Cond.code ({ cls := "StateDeskModel", name := "far", desc := "()V" } : Jvm.MethodName) prog_3_method_12_code (6 : Nat) (Option.none : Option Jvm.ClassFile.FieldType)) ∈ lw_all := lw_g (lw_at lw_m0 226 rfl) rfl
theorem q241 : (Jvm.Cond.instanceMethod ({ cls := "StateDeskModel", name := "words", desc := "(II)J" } : Jvm.MethodName)) ∈ lw_all := lw_g (lw_at lw_m0 228 rfl) rfl
theorem q242 : (Jvm.Cond.selects "StateDeskModel" ({ cls := "StateDeskModel", name := "words", desc := "(II)J" } : Jvm.MethodName) ({ cls := "StateDeskModel", name := "words", desc := "(II)J" } : Jvm.MethodName)) ∈ lw_all := lw_g (lw_at lw_m0 229 rfl) rfl
theorem q243 : (Jvm.Cond.code ({ cls := "StateDeskModel", name := "words", desc := "(II)J" } : Jvm.MethodName) prog_3_method_13_code (6 : Nat) (Option.some Jvm.ClassFile.FieldType.long)) ∈ lw_all := lw_g (lw_at lw_m0 230 rfl) rfl
theorem in_X1 : ∀ w ∈ wsX10, w ∈ lw_all := lw_in wsX10 [179, 181, 183, 185, 187, 189, 191] (by decide +kernel) (by decide +kernel)
end
section
set_option maxRecDepth 100000
/-! java/util/Arrays -/
set_option maxRecDepth 100000
def RJ0 : String := "java/util/Arrays"
abbrev cJ0_fill : ByteArray := prog_6_method_103_code
def yJ0_fill : MethodName := ⟨RJ0, "fill", "([II)V"⟩
theorem dJ0_fill_0 : decode cJ0_fill 0 = .ok (.iconst 0, 1) := by decide +kernel
theorem dJ0_fill_1 : decode cJ0_fill 1 = .ok (.istore_n 2, 1) := by decide +kernel
theorem dJ0_fill_2 : decode cJ0_fill 2 = .ok (.aload_n 0, 1) := by decide +kernel
theorem dJ0_fill_3 : decode cJ0_fill 3 = .ok (.arraylength, 1) := by decide +kernel
theorem dJ0_fill_4 : decode cJ0_fill 4 = .ok (.istore_n 3, 1) := by decide +kernel
theorem dJ0_fill_5 : decode cJ0_fill 5 = .ok (.iload_n 2, 1) := by decide +kernel
theorem dJ0_fill_6 : decode cJ0_fill 6 = .ok (.iload_n 3, 1) := by decide +kernel
theorem dJ0_fill_7 : decode cJ0_fill 7 = .ok (.if_icmp .ge 13, 3) := by decide +kernel
theorem dJ0_fill_10 : decode cJ0_fill 10 = .ok (.aload_n 0, 1) := by decide +kernel
theorem dJ0_fill_11 : decode cJ0_fill 11 = .ok (.iload_n 2, 1) := by decide +kernel
theorem dJ0_fill_12 : decode cJ0_fill 12 = .ok (.iload_n 1, 1) := by decide +kernel
theorem dJ0_fill_13 : decode cJ0_fill 13 = .ok (.iastore, 1) := by decide +kernel
theorem dJ0_fill_14 : decode cJ0_fill 14 = .ok (.iinc 2 1, 3) := by decide +kernel
theorem dJ0_fill_17 : decode cJ0_fill 17 = .ok (.goto (-12), 3) := by decide +kernel
theorem dJ0_fill_20 : decode cJ0_fill 20 = .ok (.return_, 1) := by decide +kernel
abbrev cJ0_fill_2 : ByteArray := prog_6_method_111_code
def yJ0_fill_2 : MethodName := ⟨RJ0, "fill", "([ZZ)V"⟩
theorem dJ0_fill_2_0 : decode cJ0_fill_2 0 = .ok (.iconst 0, 1) := by decide +kernel
theorem dJ0_fill_2_1 : decode cJ0_fill_2 1 = .ok (.istore_n 2, 1) := by decide +kernel
theorem dJ0_fill_2_2 : decode cJ0_fill_2 2 = .ok (.aload_n 0, 1) := by decide +kernel
theorem dJ0_fill_2_3 : decode cJ0_fill_2 3 = .ok (.arraylength, 1) := by decide +kernel
theorem dJ0_fill_2_4 : decode cJ0_fill_2 4 = .ok (.istore_n 3, 1) := by decide +kernel
theorem dJ0_fill_2_5 : decode cJ0_fill_2 5 = .ok (.iload_n 2, 1) := by decide +kernel
theorem dJ0_fill_2_6 : decode cJ0_fill_2 6 = .ok (.iload_n 3, 1) := by decide +kernel
theorem dJ0_fill_2_7 : decode cJ0_fill_2 7 = .ok (.if_icmp .ge 13, 3) := by decide +kernel
theorem dJ0_fill_2_10 : decode cJ0_fill_2 10 = .ok (.aload_n 0, 1) := by decide +kernel
theorem dJ0_fill_2_11 : decode cJ0_fill_2 11 = .ok (.iload_n 2, 1) := by decide +kernel
theorem dJ0_fill_2_12 : decode cJ0_fill_2 12 = .ok (.iload_n 1, 1) := by decide +kernel
theorem dJ0_fill_2_13 : decode cJ0_fill_2 13 = .ok (.bastore, 1) := by decide +kernel
theorem dJ0_fill_2_14 : decode cJ0_fill_2 14 = .ok (.iinc 2 1, 3) := by decide +kernel
theorem dJ0_fill_2_17 : decode cJ0_fill_2 17 = .ok (.goto (-12), 3) := by decide +kernel
theorem dJ0_fill_2_20 : decode cJ0_fill_2 20 = .ok (.return_, 1) := by decide +kernel
theorem q16 : (Jvm.Cond.initialized "java/util/Arrays") ∈ lw_all := lw_g (lw_at lw_m0 3 rfl) rfl
theorem q87 : (Jvm.Cond.static ({ cls := "java/util/Arrays", name := "fill", desc := "([II)V" } : Jvm.MethodName)) ∈ lw_all := lw_g (lw_at lw_m0 74 rfl) rfl
theorem q88 : (Jvm.Cond.code ({ cls := "java/util/Arrays", name := "fill", desc := "([II)V" } : Jvm.MethodName) prog_6_method_103_code (4 : Nat) (Option.none : Option Jvm.ClassFile.FieldType)) ∈ lw_all := lw_g (lw_at lw_m0 75 rfl) rfl
theorem q157 : (Jvm.Cond.static ({ cls := "java/util/Arrays", name := "fill", desc := "([ZZ)V" } : Jvm.MethodName)) ∈ lw_all := lw_g (lw_at lw_m0 144 rfl) rfl
theorem q158 : (Jvm.Cond.code ({ cls := "java/util/Arrays", name := "fill", desc := "([ZZ)V" } : Jvm.MethodName) prog_6_method_111_code (4 : Nat) (Option.none : Option Jvm.ClassFile.FieldType)) ∈ lw_all := lw_g (lw_at lw_m0 145 rfl) rfl

/-! java/lang/Integer -/
set_option maxRecDepth 100000
def RJ1 : String := "java/lang/Integer"
abbrev cJ1_bitCount : ByteArray := prog_4_method_49_code
def yJ1_bitCount : MethodName := ⟨RJ1, "bitCount", "(I)I"⟩
theorem dJ1_bitCount_0 : decode cJ1_bitCount 0 = .ok (.iload_n 0, 1) := by decide +kernel
theorem dJ1_bitCount_1 : decode cJ1_bitCount 1 = .ok (.iload_n 0, 1) := by decide +kernel
theorem dJ1_bitCount_2 : decode cJ1_bitCount 2 = .ok (.iconst 1, 1) := by decide +kernel
theorem dJ1_bitCount_3 : decode cJ1_bitCount 3 = .ok (.iushr, 1) := by decide +kernel
theorem dJ1_bitCount_4 : decode cJ1_bitCount 4 = .ok (.ldc_w 265, 3) := by decide +kernel
theorem dJ1_bitCount_7 : decode cJ1_bitCount 7 = .ok (.iand, 1) := by decide +kernel
theorem dJ1_bitCount_8 : decode cJ1_bitCount 8 = .ok (.isub, 1) := by decide +kernel
theorem dJ1_bitCount_9 : decode cJ1_bitCount 9 = .ok (.istore_n 0, 1) := by decide +kernel
theorem dJ1_bitCount_10 : decode cJ1_bitCount 10 = .ok (.iload_n 0, 1) := by decide +kernel
theorem dJ1_bitCount_11 : decode cJ1_bitCount 11 = .ok (.ldc_w 266, 3) := by decide +kernel
theorem dJ1_bitCount_14 : decode cJ1_bitCount 14 = .ok (.iand, 1) := by decide +kernel
theorem dJ1_bitCount_15 : decode cJ1_bitCount 15 = .ok (.iload_n 0, 1) := by decide +kernel
theorem dJ1_bitCount_16 : decode cJ1_bitCount 16 = .ok (.iconst 2, 1) := by decide +kernel
theorem dJ1_bitCount_17 : decode cJ1_bitCount 17 = .ok (.iushr, 1) := by decide +kernel
theorem dJ1_bitCount_18 : decode cJ1_bitCount 18 = .ok (.ldc_w 266, 3) := by decide +kernel
theorem dJ1_bitCount_21 : decode cJ1_bitCount 21 = .ok (.iand, 1) := by decide +kernel
theorem dJ1_bitCount_22 : decode cJ1_bitCount 22 = .ok (.iadd, 1) := by decide +kernel
theorem dJ1_bitCount_23 : decode cJ1_bitCount 23 = .ok (.istore_n 0, 1) := by decide +kernel
theorem dJ1_bitCount_24 : decode cJ1_bitCount 24 = .ok (.iload_n 0, 1) := by decide +kernel
theorem dJ1_bitCount_25 : decode cJ1_bitCount 25 = .ok (.iload_n 0, 1) := by decide +kernel
theorem dJ1_bitCount_26 : decode cJ1_bitCount 26 = .ok (.iconst 4, 1) := by decide +kernel
theorem dJ1_bitCount_27 : decode cJ1_bitCount 27 = .ok (.iushr, 1) := by decide +kernel
theorem dJ1_bitCount_28 : decode cJ1_bitCount 28 = .ok (.iadd, 1) := by decide +kernel
theorem dJ1_bitCount_29 : decode cJ1_bitCount 29 = .ok (.ldc_w 267, 3) := by decide +kernel
theorem dJ1_bitCount_32 : decode cJ1_bitCount 32 = .ok (.iand, 1) := by decide +kernel
theorem dJ1_bitCount_33 : decode cJ1_bitCount 33 = .ok (.istore_n 0, 1) := by decide +kernel
theorem dJ1_bitCount_34 : decode cJ1_bitCount 34 = .ok (.iload_n 0, 1) := by decide +kernel
theorem dJ1_bitCount_35 : decode cJ1_bitCount 35 = .ok (.iload_n 0, 1) := by decide +kernel
theorem dJ1_bitCount_36 : decode cJ1_bitCount 36 = .ok (.bipush 8, 2) := by decide +kernel
theorem dJ1_bitCount_38 : decode cJ1_bitCount 38 = .ok (.iushr, 1) := by decide +kernel
theorem dJ1_bitCount_39 : decode cJ1_bitCount 39 = .ok (.iadd, 1) := by decide +kernel
theorem dJ1_bitCount_40 : decode cJ1_bitCount 40 = .ok (.istore_n 0, 1) := by decide +kernel
theorem dJ1_bitCount_41 : decode cJ1_bitCount 41 = .ok (.iload_n 0, 1) := by decide +kernel
theorem dJ1_bitCount_42 : decode cJ1_bitCount 42 = .ok (.iload_n 0, 1) := by decide +kernel
theorem dJ1_bitCount_43 : decode cJ1_bitCount 43 = .ok (.bipush 16, 2) := by decide +kernel
theorem dJ1_bitCount_45 : decode cJ1_bitCount 45 = .ok (.iushr, 1) := by decide +kernel
theorem dJ1_bitCount_46 : decode cJ1_bitCount 46 = .ok (.iadd, 1) := by decide +kernel
theorem dJ1_bitCount_47 : decode cJ1_bitCount 47 = .ok (.istore_n 0, 1) := by decide +kernel
theorem dJ1_bitCount_48 : decode cJ1_bitCount 48 = .ok (.iload_n 0, 1) := by decide +kernel
theorem dJ1_bitCount_49 : decode cJ1_bitCount 49 = .ok (.bipush 63, 2) := by decide +kernel
theorem dJ1_bitCount_51 : decode cJ1_bitCount 51 = .ok (.iand, 1) := by decide +kernel
theorem dJ1_bitCount_52 : decode cJ1_bitCount 52 = .ok (.ireturn, 1) := by decide +kernel
theorem q17 : (Jvm.Cond.initialized "java/lang/Integer") ∈ lw_all := lw_g (lw_at lw_m0 4 rfl) rfl
theorem q111 : (Jvm.Cond.static ({ cls := "java/lang/Integer", name := "bitCount", desc := "(I)I" } : Jvm.MethodName)) ∈ lw_all := lw_g (lw_at lw_m0 98 rfl) rfl
theorem q112 : (Jvm.Cond.code ({ cls := "java/lang/Integer", name := "bitCount", desc := "(I)I" } : Jvm.MethodName) prog_4_method_49_code (1 : Nat) (Option.some Jvm.ClassFile.FieldType.int)) ∈ lw_all := lw_g (lw_at lw_m0 99 rfl) rfl
theorem q113 : (Jvm.Cond.constant "java/lang/Integer" (265 : Nat) (1431655765 : Int32)) ∈ lw_all := lw_g (lw_at lw_m0 100 rfl) rfl
theorem q114 : (Jvm.Cond.constant "java/lang/Integer" (266 : Nat) (858993459 : Int32)) ∈ lw_all := lw_g (lw_at lw_m0 101 rfl) rfl
theorem q115 : (Jvm.Cond.constant "java/lang/Integer" (267 : Nat) (252645135 : Int32)) ∈ lw_all := lw_g (lw_at lw_m0 102 rfl) rfl

/-! java/lang/Object -/
set_option maxRecDepth 100000
def RJ2 : String := "java/lang/Object"
abbrev cJ2_init : ByteArray := object_method_1_code
def yJ2_init : MethodName := ⟨RJ2, "<init>", "()V"⟩
theorem dJ2_init_0 : decode cJ2_init 0 = .ok (.return_, 1) := by decide +kernel
theorem q25 : (Jvm.Cond.instanceMethod ({ cls := "java/lang/Object", name := "<init>", desc := "()V" } : Jvm.MethodName)) ∈ lw_all := lw_g (lw_at lw_m0 12 rfl) rfl
theorem q26 : (Jvm.Cond.code ({ cls := "java/lang/Object", name := "<init>", desc := "()V" } : Jvm.MethodName) object_method_1_code (1 : Nat) (Option.none : Option Jvm.ClassFile.FieldType)) ∈ lw_all := lw_g (lw_at lw_m0 13 rfl) rfl

theorem q18 : (Jvm.Cond.initialized "java/lang/System") ∈ lw_all := lw_g (lw_at lw_m0 5 rfl) rfl
set_option maxRecDepth 100000
theorem q164 : (Jvm.Cond.static ({ cls := "java/lang/System", name := "arraycopy", desc := "(Ljava/lang/Object;ILjava/lang/Object;II)V" } : Jvm.MethodName)) ∈ lw_all := lw_g (lw_at lw_m0 151 rfl) rfl
theorem q165 : (Jvm.Cond.native ({ cls := "java/lang/System", name := "arraycopy", desc := "(Ljava/lang/Object;ILjava/lang/Object;II)V" } : Jvm.MethodName)) ∈ lw_all := lw_g (lw_at lw_m0 152 rfl) rfl

theorem q79 : (Jvm.Cond.arrayClass Jvm.ClassFile.FieldType.int) ∈ lw_all := lw_g (lw_at lw_m0 66 rfl) rfl
set_option maxRecDepth 100000
theorem q80 : (Jvm.Cond.arrayClass Jvm.ClassFile.FieldType.boolean) ∈ lw_all := lw_g (lw_at lw_m0 67 rfl) rfl
theorem q81 : (Jvm.Cond.arrayClass Jvm.ClassFile.FieldType.long) ∈ lw_all := lw_g (lw_at lw_m0 68 rfl) rfl

theorem q13 : (Jvm.Cond.initialized "StateDeskLaw") ∈ lw_all := lw_g (lw_at lw_m0 0 rfl) rfl
set_option maxRecDepth 100000
theorem q19 : (Jvm.Cond.classLink "StateDeskLaw" (7 : Nat) "StateDesk") ∈ lw_all := lw_g (lw_at lw_m0 6 rfl) rfl
theorem q21 : (Jvm.Cond.methodLink "StateDeskLaw" (9 : Nat) ({ cls := "StateDesk", name := "<init>", desc := "()V" } : Jvm.MethodName)) ∈ lw_all := lw_g (lw_at lw_m0 8 rfl) rfl
theorem q82 : (Jvm.Cond.methodLink "StateDeskLaw" (13 : Nat) ({ cls := "StateDesk", name := "states", desc := "(I)V" } : Jvm.MethodName)) ∈ lw_all := lw_g (lw_at lw_m0 69 rfl) rfl
theorem q89 : (Jvm.Cond.methodLink "StateDeskLaw" (18 : Nat) ({ cls := "StateDesk", name := "set", desc := "(IIII)V" } : Jvm.MethodName)) ∈ lw_all := lw_g (lw_at lw_m0 76 rfl) rfl
theorem q98 : (Jvm.Cond.methodLink "StateDeskLaw" (23 : Nat) ({ cls := "StateDesk", name := "takes", desc := "(III)Z" } : Jvm.MethodName)) ∈ lw_all := lw_g (lw_at lw_m0 85 rfl) rfl
theorem q140 : (Jvm.Cond.methodLink "StateDeskLaw" (28 : Nat) ({ cls := "StateDesk", name := "same", desc := "(II)Z" } : Jvm.MethodName)) ∈ lw_all := lw_g (lw_at lw_m0 127 rfl) rfl
theorem q144 : (Jvm.Cond.methodLink "StateDeskLaw" (33 : Nat) ({ cls := "StateDesk", name := "kinds", desc := "()I" } : Jvm.MethodName)) ∈ lw_all := lw_g (lw_at lw_m0 131 rfl) rfl
theorem q148 : (Jvm.Cond.methodLink "StateDeskLaw" (38 : Nat) ({ cls := "StateDesk", name := "needed", desc := "(I)I" } : Jvm.MethodName)) ∈ lw_all := lw_g (lw_at lw_m0 135 rfl) rfl
theorem q152 : (Jvm.Cond.methodLink "StateDeskLaw" (43 : Nat) ({ cls := "StateDesk", name := "witness", desc := "(II)I" } : Jvm.MethodName)) ∈ lw_all := lw_g (lw_at lw_m0 139 rfl) rfl
theorem q159 : (Jvm.Cond.methodLink "StateDeskLaw" (48 : Nat) ({ cls := "StateDesk", name := "words", desc := "(II)J" } : Jvm.MethodName)) ∈ lw_all := lw_g (lw_at lw_m0 146 rfl) rfl
theorem q166 : (Jvm.Cond.classLink "StateDeskLaw" (10 : Nat) "StateDeskModel") ∈ lw_all := lw_g (lw_at lw_m0 153 rfl) rfl
theorem q168 : (Jvm.Cond.methodLink "StateDeskLaw" (12 : Nat) ({ cls := "StateDeskModel", name := "<init>", desc := "()V" } : Jvm.MethodName)) ∈ lw_all := lw_g (lw_at lw_m0 155 rfl) rfl
theorem q194 : (Jvm.Cond.methodLink "StateDeskLaw" (17 : Nat) ({ cls := "StateDeskModel", name := "states", desc := "(I)V" } : Jvm.MethodName)) ∈ lw_all := lw_g (lw_at lw_m0 181 rfl) rfl
theorem q198 : (Jvm.Cond.methodLink "StateDeskLaw" (22 : Nat) ({ cls := "StateDeskModel", name := "set", desc := "(IIII)V" } : Jvm.MethodName)) ∈ lw_all := lw_g (lw_at lw_m0 185 rfl) rfl
theorem q207 : (Jvm.Cond.methodLink "StateDeskLaw" (27 : Nat) ({ cls := "StateDeskModel", name := "takes", desc := "(III)Z" } : Jvm.MethodName)) ∈ lw_all := lw_g (lw_at lw_m0 194 rfl) rfl
theorem q215 : (Jvm.Cond.methodLink "StateDeskLaw" (32 : Nat) ({ cls := "StateDeskModel", name := "same", desc := "(II)Z" } : Jvm.MethodName)) ∈ lw_all := lw_g (lw_at lw_m0 202 rfl) rfl
theorem q223 : (Jvm.Cond.methodLink "StateDeskLaw" (37 : Nat) ({ cls := "StateDeskModel", name := "kinds", desc := "()I" } : Jvm.MethodName)) ∈ lw_all := lw_g (lw_at lw_m0 210 rfl) rfl
theorem q227 : (Jvm.Cond.methodLink "StateDeskLaw" (42 : Nat) ({ cls := "StateDeskModel", name := "needed", desc := "(I)I" } : Jvm.MethodName)) ∈ lw_all := lw_g (lw_at lw_m0 214 rfl) rfl
theorem q231 : (Jvm.Cond.methodLink "StateDeskLaw" (47 : Nat) ({ cls := "StateDeskModel", name := "witness", desc := "(II)I" } : Jvm.MethodName)) ∈ lw_all := lw_g (lw_at lw_m0 218 rfl) rfl
theorem q240 : (Jvm.Cond.methodLink "StateDeskLaw" (52 : Nat) ({ cls := "StateDeskModel", name := "words", desc := "(II)J" } : Jvm.MethodName)) ∈ lw_all := lw_g (lw_at lw_m0 227 rfl) rfl

/-! the law's own entry -/
set_option maxRecDepth 100000
abbrev cL_law : ByteArray := code
theorem dL_law_0 : decode cL_law 0 = .ok (.new 7, 3) := by decide +kernel
theorem dL_law_3 : decode cL_law 3 = .ok (.dup, 1) := by decide +kernel
theorem dL_law_4 : decode cL_law 4 = .ok (.invokespecial 9, 3) := by decide +kernel
theorem dL_law_7 : decode cL_law 7 = .ok (.astore_n 1, 1) := by decide +kernel
theorem dL_law_8 : decode cL_law 8 = .ok (.new 10, 3) := by decide +kernel
theorem dL_law_11 : decode cL_law 11 = .ok (.dup, 1) := by decide +kernel
theorem dL_law_12 : decode cL_law 12 = .ok (.invokespecial 12, 3) := by decide +kernel
theorem dL_law_15 : decode cL_law 15 = .ok (.astore_n 2, 1) := by decide +kernel
theorem dL_law_16 : decode cL_law 16 = .ok (.iconst 0, 1) := by decide +kernel
theorem dL_law_17 : decode cL_law 17 = .ok (.istore_n 3, 1) := by decide +kernel
theorem dL_law_18 : decode cL_law 18 = .ok (.iload_n 3, 1) := by decide +kernel
theorem dL_law_19 : decode cL_law 19 = .ok (.aload_n 0, 1) := by decide +kernel
theorem dL_law_20 : decode cL_law 20 = .ok (.arraylength, 1) := by decide +kernel
theorem dL_law_21 : decode cL_law 21 = .ok (.iconst 5, 1) := by decide +kernel
theorem dL_law_22 : decode cL_law 22 = .ok (.isub, 1) := by decide +kernel
theorem dL_law_23 : decode cL_law 23 = .ok (.if_icmp .gt 314, 3) := by decide +kernel
theorem dL_law_26 : decode cL_law 26 = .ok (.aload_n 0, 1) := by decide +kernel
theorem dL_law_27 : decode cL_law 27 = .ok (.iload_n 3, 1) := by decide +kernel
theorem dL_law_28 : decode cL_law 28 = .ok (.iaload, 1) := by decide +kernel
theorem dL_law_29 : decode cL_law 29 = .ok (.bipush 7, 2) := by decide +kernel
theorem dL_law_31 : decode cL_law 31 = .ok (.iand, 1) := by decide +kernel
theorem dL_law_32 : decode cL_law 32 = .ok (.tableswitch 299 0 7 #[48, 69, 120, 163, 196, 209, 232, 265], 48) := by decide +kernel
theorem dL_law_80 : decode cL_law 80 = .ok (.aload_n 1, 1) := by decide +kernel
theorem dL_law_81 : decode cL_law 81 = .ok (.aload_n 0, 1) := by decide +kernel
theorem dL_law_82 : decode cL_law 82 = .ok (.iload_n 3, 1) := by decide +kernel
theorem dL_law_83 : decode cL_law 83 = .ok (.iconst 1, 1) := by decide +kernel
theorem dL_law_84 : decode cL_law 84 = .ok (.iadd, 1) := by decide +kernel
theorem dL_law_85 : decode cL_law 85 = .ok (.iaload, 1) := by decide +kernel
theorem dL_law_86 : decode cL_law 86 = .ok (.invokevirtual 13, 3) := by decide +kernel
theorem dL_law_89 : decode cL_law 89 = .ok (.aload_n 2, 1) := by decide +kernel
theorem dL_law_90 : decode cL_law 90 = .ok (.aload_n 0, 1) := by decide +kernel
theorem dL_law_91 : decode cL_law 91 = .ok (.iload_n 3, 1) := by decide +kernel
theorem dL_law_92 : decode cL_law 92 = .ok (.iconst 1, 1) := by decide +kernel
theorem dL_law_93 : decode cL_law 93 = .ok (.iadd, 1) := by decide +kernel
theorem dL_law_94 : decode cL_law 94 = .ok (.iaload, 1) := by decide +kernel
theorem dL_law_95 : decode cL_law 95 = .ok (.invokevirtual 17, 3) := by decide +kernel
theorem dL_law_98 : decode cL_law 98 = .ok (.goto 233, 3) := by decide +kernel
theorem dL_law_101 : decode cL_law 101 = .ok (.aload_n 1, 1) := by decide +kernel
theorem dL_law_102 : decode cL_law 102 = .ok (.aload_n 0, 1) := by decide +kernel
theorem dL_law_103 : decode cL_law 103 = .ok (.iload_n 3, 1) := by decide +kernel
theorem dL_law_104 : decode cL_law 104 = .ok (.iconst 1, 1) := by decide +kernel
theorem dL_law_105 : decode cL_law 105 = .ok (.iadd, 1) := by decide +kernel
theorem dL_law_106 : decode cL_law 106 = .ok (.iaload, 1) := by decide +kernel
theorem dL_law_107 : decode cL_law 107 = .ok (.aload_n 0, 1) := by decide +kernel
theorem dL_law_108 : decode cL_law 108 = .ok (.iload_n 3, 1) := by decide +kernel
theorem dL_law_109 : decode cL_law 109 = .ok (.iconst 2, 1) := by decide +kernel
theorem dL_law_110 : decode cL_law 110 = .ok (.iadd, 1) := by decide +kernel
theorem dL_law_111 : decode cL_law 111 = .ok (.iaload, 1) := by decide +kernel
theorem dL_law_112 : decode cL_law 112 = .ok (.aload_n 0, 1) := by decide +kernel
theorem dL_law_113 : decode cL_law 113 = .ok (.iload_n 3, 1) := by decide +kernel
theorem dL_law_114 : decode cL_law 114 = .ok (.iconst 3, 1) := by decide +kernel
theorem dL_law_115 : decode cL_law 115 = .ok (.iadd, 1) := by decide +kernel
theorem dL_law_116 : decode cL_law 116 = .ok (.iaload, 1) := by decide +kernel
theorem dL_law_117 : decode cL_law 117 = .ok (.aload_n 0, 1) := by decide +kernel
theorem dL_law_118 : decode cL_law 118 = .ok (.iload_n 3, 1) := by decide +kernel
theorem dL_law_119 : decode cL_law 119 = .ok (.iconst 4, 1) := by decide +kernel
theorem dL_law_120 : decode cL_law 120 = .ok (.iadd, 1) := by decide +kernel
theorem dL_law_121 : decode cL_law 121 = .ok (.iaload, 1) := by decide +kernel
theorem dL_law_122 : decode cL_law 122 = .ok (.invokevirtual 18, 3) := by decide +kernel
theorem dL_law_125 : decode cL_law 125 = .ok (.aload_n 2, 1) := by decide +kernel
theorem dL_law_126 : decode cL_law 126 = .ok (.aload_n 0, 1) := by decide +kernel
theorem dL_law_127 : decode cL_law 127 = .ok (.iload_n 3, 1) := by decide +kernel
theorem dL_law_128 : decode cL_law 128 = .ok (.iconst 1, 1) := by decide +kernel
theorem dL_law_129 : decode cL_law 129 = .ok (.iadd, 1) := by decide +kernel
theorem dL_law_130 : decode cL_law 130 = .ok (.iaload, 1) := by decide +kernel
theorem dL_law_131 : decode cL_law 131 = .ok (.aload_n 0, 1) := by decide +kernel
theorem dL_law_132 : decode cL_law 132 = .ok (.iload_n 3, 1) := by decide +kernel
theorem dL_law_133 : decode cL_law 133 = .ok (.iconst 2, 1) := by decide +kernel
theorem dL_law_134 : decode cL_law 134 = .ok (.iadd, 1) := by decide +kernel
theorem dL_law_135 : decode cL_law 135 = .ok (.iaload, 1) := by decide +kernel
theorem dL_law_136 : decode cL_law 136 = .ok (.aload_n 0, 1) := by decide +kernel
theorem dL_law_137 : decode cL_law 137 = .ok (.iload_n 3, 1) := by decide +kernel
theorem dL_law_138 : decode cL_law 138 = .ok (.iconst 3, 1) := by decide +kernel
theorem dL_law_139 : decode cL_law 139 = .ok (.iadd, 1) := by decide +kernel
theorem dL_law_140 : decode cL_law 140 = .ok (.iaload, 1) := by decide +kernel
theorem dL_law_141 : decode cL_law 141 = .ok (.aload_n 0, 1) := by decide +kernel
theorem dL_law_142 : decode cL_law 142 = .ok (.iload_n 3, 1) := by decide +kernel
theorem dL_law_143 : decode cL_law 143 = .ok (.iconst 4, 1) := by decide +kernel
theorem dL_law_144 : decode cL_law 144 = .ok (.iadd, 1) := by decide +kernel
theorem dL_law_145 : decode cL_law 145 = .ok (.iaload, 1) := by decide +kernel
theorem dL_law_146 : decode cL_law 146 = .ok (.invokevirtual 22, 3) := by decide +kernel
theorem dL_law_149 : decode cL_law 149 = .ok (.goto 182, 3) := by decide +kernel
theorem dL_law_152 : decode cL_law 152 = .ok (.aload_n 1, 1) := by decide +kernel
theorem dL_law_153 : decode cL_law 153 = .ok (.aload_n 0, 1) := by decide +kernel
theorem dL_law_154 : decode cL_law 154 = .ok (.iload_n 3, 1) := by decide +kernel
theorem dL_law_155 : decode cL_law 155 = .ok (.iconst 1, 1) := by decide +kernel
theorem dL_law_156 : decode cL_law 156 = .ok (.iadd, 1) := by decide +kernel
theorem dL_law_157 : decode cL_law 157 = .ok (.iaload, 1) := by decide +kernel
theorem dL_law_158 : decode cL_law 158 = .ok (.aload_n 0, 1) := by decide +kernel
theorem dL_law_159 : decode cL_law 159 = .ok (.iload_n 3, 1) := by decide +kernel
theorem dL_law_160 : decode cL_law 160 = .ok (.iconst 2, 1) := by decide +kernel
theorem dL_law_161 : decode cL_law 161 = .ok (.iadd, 1) := by decide +kernel
theorem dL_law_162 : decode cL_law 162 = .ok (.iaload, 1) := by decide +kernel
theorem dL_law_163 : decode cL_law 163 = .ok (.aload_n 0, 1) := by decide +kernel
theorem dL_law_164 : decode cL_law 164 = .ok (.iload_n 3, 1) := by decide +kernel
theorem dL_law_165 : decode cL_law 165 = .ok (.iconst 3, 1) := by decide +kernel
theorem dL_law_166 : decode cL_law 166 = .ok (.iadd, 1) := by decide +kernel
theorem dL_law_167 : decode cL_law 167 = .ok (.iaload, 1) := by decide +kernel
theorem dL_law_168 : decode cL_law 168 = .ok (.invokevirtual 23, 3) := by decide +kernel
theorem dL_law_171 : decode cL_law 171 = .ok (.aload_n 2, 1) := by decide +kernel
theorem dL_law_172 : decode cL_law 172 = .ok (.aload_n 0, 1) := by decide +kernel
theorem dL_law_173 : decode cL_law 173 = .ok (.iload_n 3, 1) := by decide +kernel
theorem dL_law_174 : decode cL_law 174 = .ok (.iconst 1, 1) := by decide +kernel
theorem dL_law_175 : decode cL_law 175 = .ok (.iadd, 1) := by decide +kernel
theorem dL_law_176 : decode cL_law 176 = .ok (.iaload, 1) := by decide +kernel
theorem dL_law_177 : decode cL_law 177 = .ok (.aload_n 0, 1) := by decide +kernel
theorem dL_law_178 : decode cL_law 178 = .ok (.iload_n 3, 1) := by decide +kernel
theorem dL_law_179 : decode cL_law 179 = .ok (.iconst 2, 1) := by decide +kernel
theorem dL_law_180 : decode cL_law 180 = .ok (.iadd, 1) := by decide +kernel
theorem dL_law_181 : decode cL_law 181 = .ok (.iaload, 1) := by decide +kernel
theorem dL_law_182 : decode cL_law 182 = .ok (.aload_n 0, 1) := by decide +kernel
theorem dL_law_183 : decode cL_law 183 = .ok (.iload_n 3, 1) := by decide +kernel
theorem dL_law_184 : decode cL_law 184 = .ok (.iconst 3, 1) := by decide +kernel
theorem dL_law_185 : decode cL_law 185 = .ok (.iadd, 1) := by decide +kernel
theorem dL_law_186 : decode cL_law 186 = .ok (.iaload, 1) := by decide +kernel
theorem dL_law_187 : decode cL_law 187 = .ok (.invokevirtual 27, 3) := by decide +kernel
theorem dL_law_190 : decode cL_law 190 = .ok (.if_icmp .eq 141, 3) := by decide +kernel
theorem dL_law_193 : decode cL_law 193 = .ok (.iconst 0, 1) := by decide +kernel
theorem dL_law_194 : decode cL_law 194 = .ok (.ireturn, 1) := by decide +kernel
theorem dL_law_195 : decode cL_law 195 = .ok (.aload_n 1, 1) := by decide +kernel
theorem dL_law_196 : decode cL_law 196 = .ok (.aload_n 0, 1) := by decide +kernel
theorem dL_law_197 : decode cL_law 197 = .ok (.iload_n 3, 1) := by decide +kernel
theorem dL_law_198 : decode cL_law 198 = .ok (.iconst 1, 1) := by decide +kernel
theorem dL_law_199 : decode cL_law 199 = .ok (.iadd, 1) := by decide +kernel
theorem dL_law_200 : decode cL_law 200 = .ok (.iaload, 1) := by decide +kernel
theorem dL_law_201 : decode cL_law 201 = .ok (.aload_n 0, 1) := by decide +kernel
theorem dL_law_202 : decode cL_law 202 = .ok (.iload_n 3, 1) := by decide +kernel
theorem dL_law_203 : decode cL_law 203 = .ok (.iconst 2, 1) := by decide +kernel
theorem dL_law_204 : decode cL_law 204 = .ok (.iadd, 1) := by decide +kernel
theorem dL_law_205 : decode cL_law 205 = .ok (.iaload, 1) := by decide +kernel
theorem dL_law_206 : decode cL_law 206 = .ok (.invokevirtual 28, 3) := by decide +kernel
theorem dL_law_209 : decode cL_law 209 = .ok (.aload_n 2, 1) := by decide +kernel
theorem dL_law_210 : decode cL_law 210 = .ok (.aload_n 0, 1) := by decide +kernel
theorem dL_law_211 : decode cL_law 211 = .ok (.iload_n 3, 1) := by decide +kernel
theorem dL_law_212 : decode cL_law 212 = .ok (.iconst 1, 1) := by decide +kernel
theorem dL_law_213 : decode cL_law 213 = .ok (.iadd, 1) := by decide +kernel
theorem dL_law_214 : decode cL_law 214 = .ok (.iaload, 1) := by decide +kernel
theorem dL_law_215 : decode cL_law 215 = .ok (.aload_n 0, 1) := by decide +kernel
theorem dL_law_216 : decode cL_law 216 = .ok (.iload_n 3, 1) := by decide +kernel
theorem dL_law_217 : decode cL_law 217 = .ok (.iconst 2, 1) := by decide +kernel
theorem dL_law_218 : decode cL_law 218 = .ok (.iadd, 1) := by decide +kernel
theorem dL_law_219 : decode cL_law 219 = .ok (.iaload, 1) := by decide +kernel
theorem dL_law_220 : decode cL_law 220 = .ok (.invokevirtual 32, 3) := by decide +kernel
theorem dL_law_223 : decode cL_law 223 = .ok (.if_icmp .eq 108, 3) := by decide +kernel
theorem dL_law_226 : decode cL_law 226 = .ok (.iconst 0, 1) := by decide +kernel
theorem dL_law_227 : decode cL_law 227 = .ok (.ireturn, 1) := by decide +kernel
theorem dL_law_228 : decode cL_law 228 = .ok (.aload_n 1, 1) := by decide +kernel
theorem dL_law_229 : decode cL_law 229 = .ok (.invokevirtual 33, 3) := by decide +kernel
theorem dL_law_232 : decode cL_law 232 = .ok (.aload_n 2, 1) := by decide +kernel
theorem dL_law_233 : decode cL_law 233 = .ok (.invokevirtual 37, 3) := by decide +kernel
theorem dL_law_236 : decode cL_law 236 = .ok (.if_icmp .eq 95, 3) := by decide +kernel
theorem dL_law_239 : decode cL_law 239 = .ok (.iconst 0, 1) := by decide +kernel
theorem dL_law_240 : decode cL_law 240 = .ok (.ireturn, 1) := by decide +kernel
theorem dL_law_241 : decode cL_law 241 = .ok (.aload_n 1, 1) := by decide +kernel
theorem dL_law_242 : decode cL_law 242 = .ok (.aload_n 0, 1) := by decide +kernel
theorem dL_law_243 : decode cL_law 243 = .ok (.iload_n 3, 1) := by decide +kernel
theorem dL_law_244 : decode cL_law 244 = .ok (.iconst 1, 1) := by decide +kernel
theorem dL_law_245 : decode cL_law 245 = .ok (.iadd, 1) := by decide +kernel
theorem dL_law_246 : decode cL_law 246 = .ok (.iaload, 1) := by decide +kernel
theorem dL_law_247 : decode cL_law 247 = .ok (.invokevirtual 38, 3) := by decide +kernel
theorem dL_law_250 : decode cL_law 250 = .ok (.aload_n 2, 1) := by decide +kernel
theorem dL_law_251 : decode cL_law 251 = .ok (.aload_n 0, 1) := by decide +kernel
theorem dL_law_252 : decode cL_law 252 = .ok (.iload_n 3, 1) := by decide +kernel
theorem dL_law_253 : decode cL_law 253 = .ok (.iconst 1, 1) := by decide +kernel
theorem dL_law_254 : decode cL_law 254 = .ok (.iadd, 1) := by decide +kernel
theorem dL_law_255 : decode cL_law 255 = .ok (.iaload, 1) := by decide +kernel
theorem dL_law_256 : decode cL_law 256 = .ok (.invokevirtual 42, 3) := by decide +kernel
theorem dL_law_259 : decode cL_law 259 = .ok (.if_icmp .eq 72, 3) := by decide +kernel
theorem dL_law_262 : decode cL_law 262 = .ok (.iconst 0, 1) := by decide +kernel
theorem dL_law_263 : decode cL_law 263 = .ok (.ireturn, 1) := by decide +kernel
theorem dL_law_264 : decode cL_law 264 = .ok (.aload_n 1, 1) := by decide +kernel
theorem dL_law_265 : decode cL_law 265 = .ok (.aload_n 0, 1) := by decide +kernel
theorem dL_law_266 : decode cL_law 266 = .ok (.iload_n 3, 1) := by decide +kernel
theorem dL_law_267 : decode cL_law 267 = .ok (.iconst 1, 1) := by decide +kernel
theorem dL_law_268 : decode cL_law 268 = .ok (.iadd, 1) := by decide +kernel
theorem dL_law_269 : decode cL_law 269 = .ok (.iaload, 1) := by decide +kernel
theorem dL_law_270 : decode cL_law 270 = .ok (.aload_n 0, 1) := by decide +kernel
theorem dL_law_271 : decode cL_law 271 = .ok (.iload_n 3, 1) := by decide +kernel
theorem dL_law_272 : decode cL_law 272 = .ok (.iconst 2, 1) := by decide +kernel
theorem dL_law_273 : decode cL_law 273 = .ok (.iadd, 1) := by decide +kernel
theorem dL_law_274 : decode cL_law 274 = .ok (.iaload, 1) := by decide +kernel
theorem dL_law_275 : decode cL_law 275 = .ok (.invokevirtual 43, 3) := by decide +kernel
theorem dL_law_278 : decode cL_law 278 = .ok (.aload_n 2, 1) := by decide +kernel
theorem dL_law_279 : decode cL_law 279 = .ok (.aload_n 0, 1) := by decide +kernel
theorem dL_law_280 : decode cL_law 280 = .ok (.iload_n 3, 1) := by decide +kernel
theorem dL_law_281 : decode cL_law 281 = .ok (.iconst 1, 1) := by decide +kernel
theorem dL_law_282 : decode cL_law 282 = .ok (.iadd, 1) := by decide +kernel
theorem dL_law_283 : decode cL_law 283 = .ok (.iaload, 1) := by decide +kernel
theorem dL_law_284 : decode cL_law 284 = .ok (.aload_n 0, 1) := by decide +kernel
theorem dL_law_285 : decode cL_law 285 = .ok (.iload_n 3, 1) := by decide +kernel
theorem dL_law_286 : decode cL_law 286 = .ok (.iconst 2, 1) := by decide +kernel
theorem dL_law_287 : decode cL_law 287 = .ok (.iadd, 1) := by decide +kernel
theorem dL_law_288 : decode cL_law 288 = .ok (.iaload, 1) := by decide +kernel
theorem dL_law_289 : decode cL_law 289 = .ok (.invokevirtual 47, 3) := by decide +kernel
theorem dL_law_292 : decode cL_law 292 = .ok (.if_icmp .eq 39, 3) := by decide +kernel
theorem dL_law_295 : decode cL_law 295 = .ok (.iconst 0, 1) := by decide +kernel
theorem dL_law_296 : decode cL_law 296 = .ok (.ireturn, 1) := by decide +kernel
theorem dL_law_297 : decode cL_law 297 = .ok (.aload_n 1, 1) := by decide +kernel
theorem dL_law_298 : decode cL_law 298 = .ok (.aload_n 0, 1) := by decide +kernel
theorem dL_law_299 : decode cL_law 299 = .ok (.iload_n 3, 1) := by decide +kernel
theorem dL_law_300 : decode cL_law 300 = .ok (.iconst 1, 1) := by decide +kernel
theorem dL_law_301 : decode cL_law 301 = .ok (.iadd, 1) := by decide +kernel
theorem dL_law_302 : decode cL_law 302 = .ok (.iaload, 1) := by decide +kernel
theorem dL_law_303 : decode cL_law 303 = .ok (.aload_n 0, 1) := by decide +kernel
theorem dL_law_304 : decode cL_law 304 = .ok (.iload_n 3, 1) := by decide +kernel
theorem dL_law_305 : decode cL_law 305 = .ok (.iconst 2, 1) := by decide +kernel
theorem dL_law_306 : decode cL_law 306 = .ok (.iadd, 1) := by decide +kernel
theorem dL_law_307 : decode cL_law 307 = .ok (.iaload, 1) := by decide +kernel
theorem dL_law_308 : decode cL_law 308 = .ok (.invokevirtual 48, 3) := by decide +kernel
theorem dL_law_311 : decode cL_law 311 = .ok (.aload_n 2, 1) := by decide +kernel
theorem dL_law_312 : decode cL_law 312 = .ok (.aload_n 0, 1) := by decide +kernel
theorem dL_law_313 : decode cL_law 313 = .ok (.iload_n 3, 1) := by decide +kernel
theorem dL_law_314 : decode cL_law 314 = .ok (.iconst 1, 1) := by decide +kernel
theorem dL_law_315 : decode cL_law 315 = .ok (.iadd, 1) := by decide +kernel
theorem dL_law_316 : decode cL_law 316 = .ok (.iaload, 1) := by decide +kernel
theorem dL_law_317 : decode cL_law 317 = .ok (.aload_n 0, 1) := by decide +kernel
theorem dL_law_318 : decode cL_law 318 = .ok (.iload_n 3, 1) := by decide +kernel
theorem dL_law_319 : decode cL_law 319 = .ok (.iconst 2, 1) := by decide +kernel
theorem dL_law_320 : decode cL_law 320 = .ok (.iadd, 1) := by decide +kernel
theorem dL_law_321 : decode cL_law 321 = .ok (.iaload, 1) := by decide +kernel
theorem dL_law_322 : decode cL_law 322 = .ok (.invokevirtual 52, 3) := by decide +kernel
theorem dL_law_325 : decode cL_law 325 = .ok (.lcmp, 1) := by decide +kernel
theorem dL_law_326 : decode cL_law 326 = .ok (.ifCond .eq 5, 3) := by decide +kernel
theorem dL_law_329 : decode cL_law 329 = .ok (.iconst 0, 1) := by decide +kernel
theorem dL_law_330 : decode cL_law 330 = .ok (.ireturn, 1) := by decide +kernel
theorem dL_law_331 : decode cL_law 331 = .ok (.iinc 3 5, 3) := by decide +kernel
theorem dL_law_334 : decode cL_law 334 = .ok (.goto (-316), 3) := by decide +kernel
theorem dL_law_337 : decode cL_law 337 = .ok (.iconst 1, 1) := by decide +kernel
theorem dL_law_338 : decode cL_law 338 = .ok (.ireturn, 1) := by decide +kernel
end
section
/-! ROWS: the two objects' worlds in natural numbers, and a row an instruction over them. The state of an object is one function S: S 0 k its int field k, S c j place j of its array c -/
abbrev vwCl : List vw_C := [(RX0, TX0, 17), (RX1, TX1, 7)]
/-- v at place k of cell c -/
def sd_up (S : Nat → Nat → Nat) (c k v : Nat) : Nat → Nat → Nat := fun c' => if c' = c then (fun j => if j = k then v else S c' j) else S c'
theorem sd_up_s (S : Nat → Nat → Nat) (c k v : Nat) : sd_up S c k v c k = v := by simp [sd_up]
theorem sd_up_j (S : Nat → Nat → Nat) {c k j : Nat} (v : Nat) (h : j ≠ k) : sd_up S c k v c j = S c j := by simp [sd_up, h]
theorem sd_up_c (S : Nat → Nat → Nat) {c c' : Nat} (k v : Nat) (h : c' ≠ c) : sd_up S c k v c' = S c' := by simp [sd_up, h]
theorem sd_up_at (S : Nat → Nat → Nat) (c k v j : Nat) : sd_up S c k v c j = if j = k then v else S c j := by simp [sd_up]
def sd_fX (h : Nat → Nat) (S : Nat → Nat → Nat) : List Value := [.int (nI (S 0 0)), .int (nI (S 0 1)), .ref (h 1), .int (nI (S 0 3)), .ref (h 2), .ref (h 3), .int (nI (S 0 6)), .int (nI (S 0 7)), .ref (h 4), .ref (h 5), .int (nI (S 0 10)), .int (nI (S 0 11)), .ref (h 6), .ref (h 7), .ref (h 8), .ref (h 9), .ref (h 10)]
def sd_wX (h : Nat → Nat) (d : Nat → ClassId) (S : Nat → Nat → Nat) : va_W := [(h 0, .inr (0, sd_fX h S)),
  (h 1, .inl (d 0, 32, .inl (fun j => nI (S 1 j)))), (h 2, .inl (d 0, 16, .inl (fun j => nI (S 2 j)))), (h 3, .inl (d 0, 32, .inl (fun j => nI (S 3 j)))), (h 4, .inl (d 0, 16, .inl (fun j => nI (S 4 j)))),
  (h 5, .inl (d 0, 512, .inl (fun j => nI (S 5 j)))), (h 6, .inl (d 0, 256, .inl (fun j => nI (S 6 j)))), (h 7, .inl (d 0, 256, .inl (fun j => nI (S 7 j)))), (h 8, .inl (d 1, 256, .inl (fun j => nI (S 8 j)))),
  (h 9, .inl (d 2, 16, .inr (.inl (fun j => lN (S 9 j))))), (h 10, .inl (d 2, 16, .inr (.inl (fun j => lN (S 10 j)))))]
def sd_lX : Nat → Nat := fun c => match c with
  | 1 => 32 | 2 => 16 | 3 => 32 | 4 => 16 | 5 => 512 | 6 => 256 | 7 => 256 | 8 => 256 | _ => 16
def sd_fM (h : Nat → Nat) (S : Nat → Nat → Nat) : List Value := [.ref (h 1), .ref (h 2), .int (nI (S 0 2)), .ref (h 3), .ref (h 4), .ref (h 5), .ref (h 6)]
def sd_wM (h : Nat → Nat) (d : Nat → ClassId) (S : Nat → Nat → Nat) : va_W := [(h 0, .inr (1, sd_fM h S)),
  (h 1, .inl (d 0, 32, .inl (fun j => nI (S 1 j)))), (h 2, .inl (d 1, 16, .inl (fun j => nI (S 2 j)))), (h 3, .inl (d 1, 256, .inl (fun j => nI (S 3 j)))), (h 4, .inl (d 0, 256, .inl (fun j => nI (S 4 j)))),
  (h 5, .inl (d 2, 16, .inr (.inl (fun j => lN (S 5 j))))), (h 6, .inl (d 2, 16, .inr (.inl (fun j => lN (S 6 j)))))]
def sd_lM : Nat → Nat := fun c => match c with
  | 1 => 32 | 2 => 16 | 3 => 256 | 4 => 256 | _ => 16
def sd_ty (d : Nat → ClassId) : List (ClassId × FieldType) := [(d 0, .int), (d 1, .boolean), (d 2, .long)]
theorem sd_TX0 (k : Nat) : (TX0 k).1 = RX0 := by unfold TX0; split <;> rfl
theorem sd_TX1 (k : Nat) : (TX1 k).1 = RX1 := by unfold TX1; split <;> rfl
theorem sd_setXf {h : Nat → Nat} {d : Nat → ClassId} {S : Nat → Nat → Nat} {k x : Nat} (hk : k = 0 ∨ k = 1 ∨ k = 3 ∨ k = 6 ∨ k = 7 ∨ k = 10 ∨ k = 11) : (sd_wX h d S).set 0 (h 0, .inr (0, (sd_fX h S).set k (.int (nI x)))) = sd_wX h d (sd_up S 0 k x) := by
  rcases hk with rfl | rfl | rfl | rfl | rfl | rfl | rfl <;> rfl
theorem sd_setXi {h : Nat → Nat} {d : Nat → ClassId} {S : Nat → Nat → Nat} {c k x : Nat} (hc : c = 1 ∨ c = 2 ∨ c = 3 ∨ c = 4 ∨ c = 5 ∨ c = 6 ∨ c = 7) : (sd_wX h d S).set c (h c, .inl (d 0, sd_lX c, .inl (fun j => nI (if j = k then x else S c j)))) = sd_wX h d (sd_up S c k x) := by
  rcases hc with rfl | rfl | rfl | rfl | rfl | rfl | rfl <;> rfl
theorem sd_setXz {h : Nat → Nat} {d : Nat → ClassId} {S : Nat → Nat → Nat} {k x : Nat} : (sd_wX h d S).set 8 (h 8, .inl (d 1, 256, .inl (fun j => nI (if j = k then x else S 8 j)))) = sd_wX h d (sd_up S 8 k x) := rfl
theorem sd_setXl {h : Nat → Nat} {d : Nat → ClassId} {S : Nat → Nat → Nat} {c k x : Nat} (hc : c = 9 ∨ c = 10) : (sd_wX h d S).set c (h c, .inl (d 2, 16, .inr (.inl (fun j => lN (if j = k then x else S c j))))) = sd_wX h d (sd_up S c k x) := by
  rcases hc with rfl | rfl <;> rfl
theorem sd_setMf {h : Nat → Nat} {d : Nat → ClassId} {S : Nat → Nat → Nat} {x : Nat} : (sd_wM h d S).set 0 (h 0, .inr (1, (sd_fM h S).set 2 (.int (nI x)))) = sd_wM h d (sd_up S 0 2 x) := rfl
theorem sd_setMi {h : Nat → Nat} {d : Nat → ClassId} {S : Nat → Nat → Nat} {c k x : Nat} (hc : c = 1 ∨ c = 4) : (sd_wM h d S).set c (h c, .inl (d 0, sd_lM c, .inl (fun j => nI (if j = k then x else S c j)))) = sd_wM h d (sd_up S c k x) := by
  rcases hc with rfl | rfl <;> rfl
theorem sd_setMz {h : Nat → Nat} {d : Nat → ClassId} {S : Nat → Nat → Nat} {c k x : Nat} (hc : c = 2 ∨ c = 3) : (sd_wM h d S).set c (h c, .inl (d 1, sd_lM c, .inl (fun j => nI (if j = k then x else S c j)))) = sd_wM h d (sd_up S c k x) := by
  rcases hc with rfl | rfl <;> rfl
theorem sd_setMl {h : Nat → Nat} {d : Nat → ClassId} {S : Nat → Nat → Nat} {c k x : Nat} (hc : c = 5 ∨ c = 6) : (sd_wM h d S).set c (h c, .inl (d 2, 16, .inr (.inl (fun j => lN (if j = k then x else S c j))))) = sd_wM h d (sd_up S c k x) := by
  rcases hc with rfl | rfl <;> rfl
/-! numbers -/
theorem sd_updN (f : Nat → Nat) {k : Nat} (hk : k < 2 ^ 31) (x : Nat) : upd (fun j => nI (f j)) (nI k).toNatClampNeg (nI x) = fun j => nI (if j = k then x else f j) := by
  rw [nI_clamp hk]
  funext j
  by_cases q : j = k
  · subst q; simp [upd]
  · simp [upd, q]
theorem sd_updL (f : Nat → Nat) {k : Nat} (hk : k < 2 ^ 31) (x : Nat) : vp_updL (fun j => lN (f j)) (nI k).toNatClampNeg (lN x) = fun j => lN (if j = k then x else f j) := by
  rw [nI_clamp hk]
  funext j
  by_cases q : j = k
  · subst q; simp [vp_updL]
  · simp [vp_updL, q]
theorem sd_nz {x : Nat} (hx : x < 2) : vp_nar .boolean (nI x) = nI x := by
  rcases (show x = 0 ∨ x = 1 by omega) with rfl | rfl <;> decide
theorem sd_nr {x : Nat} (hx : x < 2) : narrow .boolean (.int (nI x)) = .int (nI x) := by
  rcases (show x = 0 ∨ x = 1 by omega) with rfl | rfl <;> rfl
theorem sd_and (a b : Nat) : nI a &&& nI b = nI (a &&& b) := by
  apply Int32.toBitVec_inj.1
  show BitVec.ofNat 32 a &&& BitVec.ofNat 32 b = BitVec.ofNat 32 (a &&& b)
  apply BitVec.eq_of_getLsbD_eq
  intro i hi
  simp [hi]
theorem sd_or (a b : Nat) : nI a ||| nI b = nI (a ||| b) := by
  apply Int32.toBitVec_inj.1
  show BitVec.ofNat 32 a ||| BitVec.ofNat 32 b = BitVec.ofNat 32 (a ||| b)
  apply BitVec.eq_of_getLsbD_eq
  intro i hi
  simp [hi]
/-- a without what is in b -/
def sd_no (a b : Nat) : Nat := a ^^^ (a &&& b)
theorem sd_no_bit (a b i : Nat) : (sd_no a b).testBit i = (a.testBit i && !b.testBit i) := by
  unfold sd_no
  rw [Nat.testBit_xor, Nat.testBit_and]
  cases a.testBit i <;> cases b.testBit i <;> rfl
theorem sd_andn (a b : Nat) : nI a &&& (nI b ^^^ (-1)) = nI (sd_no a b) := by
  apply Int32.toBitVec_inj.1
  show BitVec.ofNat 32 a &&& (BitVec.ofNat 32 b ^^^ BitVec.ofInt 32 (-1)) = BitVec.ofNat 32 (sd_no a b)
  have e : BitVec.ofInt 32 (-1) = BitVec.allOnes 32 := by decide
  rw [e]
  apply BitVec.eq_of_getLsbD_eq
  intro i hi
  rw [BitVec.getLsbD_and, BitVec.getLsbD_xor, BitVec.getLsbD_ofNat, BitVec.getLsbD_ofNat, BitVec.getLsbD_ofNat, BitVec.getLsbD_allOnes, sd_no_bit]
  cases a.testBit i <;> cases b.testBit i <;> simp [hi]
theorem sd_andm (a k : Nat) : nI a &&& nI (2 ^ k - 1) = nI (a % 2 ^ k) := by rw [sd_and, Nat.and_two_pow_sub_one_eq_mod]
theorem sd_and1 (a : Nat) : nI a &&& nI 1 = nI (a % 2) := sd_andm a 1
theorem sd_and15 (a : Nat) : nI a &&& nI 15 = nI (a % 16) := sd_andm a 4
theorem sd_and31 (a : Nat) : nI a &&& nI 31 = nI (a % 32) := sd_andm a 5
theorem sd_and7 (a : Nat) : nI a &&& nI 7 = nI (a % 8) := sd_andm a 3
theorem sd_andM (a : Nat) : nI a &&& nI 2147483647 = nI (a % 2147483648) := sd_andm a 31
theorem sd_sl : ∀ n, n < 32 → ((nI n &&& 31).toBitVec.smod 32).toNat = n := by decide +kernel
theorem sd_su : ∀ n, n < 32 → (((nI n).toUInt32 &&& Int32.toUInt32 31).toBitVec % 32).toNat = n := by decide +kernel
theorem sd_tn (n : Nat) : (nI n).toBitVec.toNat = n % 2 ^ 32 := by
  show (BitVec.ofNat 32 n).toNat = _
  rw [BitVec.toNat_ofNat]
theorem sd_shl (a : Nat) {k : Nat} (hk : k < 32) : nI a <<< (nI k &&& 31) = nI (a * 2 ^ k) := by
  apply Int32.toBitVec_inj.mp
  apply BitVec.eq_of_toNat_eq
  rw [pk_shl _ _ k (sd_sl k hk), sd_tn, sd_tn, Nat.mul_mod, Nat.mod_mod, ← Nat.mul_mod]
theorem sd_shl1 {k : Nat} (hk : k < 32) : nI 1 <<< (nI k &&& 31) = nI (2 ^ k) := by rw [sd_shl 1 hk, Nat.one_mul]
theorem sd_shl2 (a : Nat) : nI a <<< (nI 1 &&& 31) = nI (2 * a) := by rw [sd_shl a (by decide), Nat.pow_one, Nat.mul_comm]
theorem sd_shr {a k : Nat} (ha : a < 2 ^ 31) (hk : k < 32) : nI a >>> (nI k &&& 31) = nI (a / 2 ^ k) := pk_shrN ha _ k (sd_sl k hk)
theorem sd_ushr {a k : Nat} (ha : a < 2 ^ 32) (hk : k < 32) : ((nI a).toUInt32 >>> ((nI k).toUInt32 &&& Int32.toUInt32 31)).toInt32 = nI (a / 2 ^ k) := pk_ushrN ha _ k (sd_su k hk)
/-- the lowest bit behind '>>', of any int -/
theorem sd_sbit {w k : Nat} (hw : w < 2 ^ 32) (hk : k < 32) : (nI w >>> (nI k &&& 31)) &&& nI 1 = nI (w / 2 ^ k % 2) := by
  apply Int32.toBitVec_inj.1
  show ((BitVec.ofNat 32 w).sshiftRight ((nI k &&& 31).toBitVec.smod 32).toNat) &&& BitVec.ofNat 32 1 = BitVec.ofNat 32 (w / 2 ^ k % 2)
  rw [sd_sl k hk]
  apply BitVec.eq_of_getLsbD_eq
  intro i hi
  rw [BitVec.getLsbD_and, BitVec.getLsbD_ofNat, BitVec.getLsbD_ofNat, BitVec.getLsbD_sshiftRight, BitVec.getLsbD_ofNat]
  by_cases h0 : i = 0
  · subst h0
    simp [hk, Nat.testBit_eq_decide_div_mod_eq]
  · have h1 : (1 : Nat).testBit i = false := by
      rw [Nat.testBit_eq_decide_div_mod_eq, Nat.div_eq_of_lt (Nat.one_lt_two_pow h0)]; rfl
    have h2 : (w / 2 ^ k % 2).testBit i = false := Nat.testBit_lt_two_pow (Nat.lt_of_lt_of_le (Nat.mod_lt (w / 2 ^ k) (by decide : 0 < 2)) (Nat.pow_le_pow_right (by decide : 0 < 2) (by omega : 1 ≤ i)))
    simp [h1, h2]
theorem sd_inc (x : Nat) : nI x + Int32.ofInt 1 = nI (x + 1) := nI_1 x
theorem sd_of (x : Int32) : x = nI x.toBitVec.toNat := Int32.toBitVec_inj.mp (by show _ = BitVec.ofNat 32 _; simp)
theorem sd_of_lt (x : Int32) : x.toBitVec.toNat < 2 ^ 32 := x.toBitVec.isLt
/-! contexts -/
def sd_E (p : Program) (m : MethodId) (c : Code) (cc : ByteArray) (nL : Nat) (s : State) (args : Array Value) (own : String) (D : va_G) (d : Nat → ClassId) : Prop := CallFix p m c cc nL s args lw_all own ∧ va_K D vwCl (sd_ty d) s
/-- the world at a heap: its cells, apart and free, nothing else changed -/
def sd_W (D : va_G) (A : Nat → Prop) (H0 : Heap) (ws : va_W) (H : Heap) (locs : List Loc) : Prop := va_P D vwCl ws H ∧ va_D A ws ∧ va_S A H0 H locs
/-- a contract's start -/
def sd_P (D : va_G) (d : Nat → ClassId) (ws : va_W) (sz : Nat) (U : State) : Prop := U.heap.size = sz ∧ va_P D vwCl ws U.heap ∧ va_K D vwCl (sd_ty d) U ∧ va_D (fun _ => True) ws
/-- contracts' ends: an int, nothing, a long -/
def sd_Qi {σ : Type} (D : va_G) (post : Int32 → σ → Prop) (w : σ → va_W) (A : Nat → Prop) : Array Value → State → Outcome → State → Prop := va_Qi post (fun u t => va_P D vwCl (w u) t.heap) A
def sd_Qv {σ : Type} (D : va_G) (post : σ → Prop) (w : σ → va_W) (A : Nat → Prop) : Array Value → State → Outcome → State → Prop := va_Qv post (fun u t => va_P D vwCl (w u) t.heap) A
def sd_Ql {σ : Type} (D : va_G) (post : Int64 → σ → Prop) (w : σ → va_W) (A : Nat → Prop) : Array Value → State → Outcome → State → Prop := va_Ql post (fun u t => va_P D vwCl (w u) t.heap) A
/-- room by depth of calls -/
def sd_rm (n : Nat) : Room := { frames := n, cells := 0, slots := 0, locals := 40 * n }
theorem sd_D_of {A B : Nat → Prop} {ws ws' : va_W} (hD : va_D A ws) (e : ws'.map (fun q => q.1) = ws.map (fun q => q.1)) (hAB : ∀ q, A q → B q) : va_D B ws' := by
  have key : ∀ (k : Nat) (q : Nat × va_E), ws'[k]? = some q → ∃ q' : Nat × va_E, ws[k]? = some q' ∧ q'.1 = q.1 := by
    intro k q hk
    have h1 : (ws'.map (fun q => q.1))[k]? = some q.1 := by rw [List.getElem?_map, hk]; rfl
    rw [e, List.getElem?_map] at h1
    cases hw : ws[k]? with
    | none => rw [hw] at h1; cases h1
    | some q' => rw [hw] at h1; exact ⟨q', rfl, Option.some.inj h1⟩
  refine ⟨fun i j p q hi hj hpq => ?_, fun k q hk => ?_⟩
  · obtain ⟨p', h1, e1⟩ := key i p hi
    obtain ⟨q', h2, e2⟩ := key j q hj
    exact hD.1 i j p' q' h1 h2 (by rw [e1, e2]; exact hpq)
  · obtain ⟨q', h1, e1⟩ := key k q hk
    rw [← e1]
    exact hAB _ (hD.2 k q' h1)
section
variable {p : Program} {l : Launch} {e : Env} {R : Room} {s : State} {m : MethodId} {args : Array Value} {below : List Frame} {meth : Method} {c : Code} {H : Heap} {locs : List Loc} {cells slots : Nat} {Q : State → Prop}
variable {cc : ByteArray} {pc : Nat} {ls : Array Slot} {rest : List Value} {nL : Nat} {own : String} {D : va_G} {d : Nat → ClassId} {A : Nat → Prop} {H0 : Heap} {ws : va_W} {h : Nat → Nat} {S : Nat → Nat → Nat}
/-! the loop rule and the cut -/
theorem sd_loop {σ : Type} {st : List Value} (I : Nat → σ → Heap → List Loc → Array Slot → Prop)
    (body : ∀ (n : Nat) (x : σ) (H : Heap) (locs : List Loc) (ls : Array Slot), I n x H locs ls → (∀ (n' : Nat) (x' : σ) (H' : Heap) (locs' : List Loc) (ls' : Array Slot), n' < n → I n' x' H' locs' ls' → W p l e R s m args below meth c H' locs' cells slots Q (F0 m pc ls' st)) → W p l e R s m args below meth c H locs cells slots Q (F0 m pc ls st)) :
    ∀ (n : Nat) (x : σ) (H : Heap) (locs : List Loc) (ls : Array Slot), I n x H locs ls → W p l e R s m args below meth c H locs cells slots Q (F0 m pc ls st) := by
  intro n
  induction n using Nat.strongRecOn with
  | _ n ih =>
    intro x H locs ls hI
    exact body n x H locs ls hI (fun n' x' H' locs' ls' hlt hI' => ih n' hlt x' H' locs' ls' hI')
theorem sd_cut {σ : Type} {g0 : JFrame} (I : σ → Prop) (g : σ → JFrame) (J : ∀ x, I x → W p l e R s m args below meth c H locs cells slots Q (g x)) (k : (∀ x, I x → W p l e R s m args below meth c H locs cells slots Q (g x)) → W p l e R s m args below meth c H locs cells slots Q g0) : W p l e R s m args below meth c H locs cells slots Q g0 := k J
/-- a cut with the heap free -/
theorem sd_cutH {σ : Type} {g0 : JFrame} (I : σ → Heap → List Loc → Array Slot → Prop) (g : σ → Array Slot → JFrame) (J : ∀ x H locs ls, I x H locs ls → W p l e R s m args below meth c H locs cells slots Q (g x ls)) (k : (∀ x H locs ls, I x H locs ls → W p l e R s m args below meth c H locs cells slots Q (g x ls)) → W p l e R s m args below meth c H locs cells slots Q g0) : W p l e R s m args below meth c H locs cells slots Q g0 := k J
/-! numbers on the stack -/
theorem sd_eqn {a b : Nat} (q : a = b) (k : W p l e R s m args below meth c H locs cells slots Q (F0 m pc ls (.int (nI b) :: rest))) : W p l e R s m args below meth c H locs cells slots Q (F0 m pc ls (.int (nI a) :: rest)) := q ▸ k
theorem sd_iadd (hx : p.tables.exec = Jvm.exec) (hb : c.code = cc) {a b : Nat} (hdg : decode cc pc = .ok (.iadd, 1)) (k : W p l e R s m args below meth c H locs cells slots Q (F0 m (pc + 1) ls (.int (nI (a + b)) :: rest))) : W p l e R s m args below meth c H locs cells slots Q (F0 m pc ls (.int (nI b) :: .int (nI a) :: rest)) := lv_iadd hx hb hdg (by rw [nI_add]; exact k)
theorem sd_isub (hx : p.tables.exec = Jvm.exec) (hb : c.code = cc) {a b : Nat} (hdg : decode cc pc = .ok (.isub, 1)) (hle : b ≤ a) (k : W p l e R s m args below meth c H locs cells slots Q (F0 m (pc + 1) ls (.int (nI (a - b)) :: rest))) : W p l e R s m args below meth c H locs cells slots Q (F0 m pc ls (.int (nI b) :: .int (nI a) :: rest)) := lv_isub hx hb hdg (by rw [pk_sub hle]; exact k)
theorem sd_imul (hx : p.tables.exec = Jvm.exec) (hb : c.code = cc) {a b : Nat} (hdg : decode cc pc = .ok (.imul, 1)) (k : W p l e R s m args below meth c H locs cells slots Q (F0 m (pc + 1) ls (.int (nI (a * b)) :: rest))) : W p l e R s m args below meth c H locs cells slots Q (F0 m pc ls (.int (nI b) :: .int (nI a) :: rest)) := lv_imul hx hb hdg (by rw [pk_mul]; exact k)
theorem sd_iand (hx : p.tables.exec = Jvm.exec) (hb : c.code = cc) {a b : Nat} (hdg : decode cc pc = .ok (.iand, 1)) (k : W p l e R s m args below meth c H locs cells slots Q (F0 m (pc + 1) ls (.int (nI (a &&& b)) :: rest))) : W p l e R s m args below meth c H locs cells slots Q (F0 m pc ls (.int (nI b) :: .int (nI a) :: rest)) := lv_iand hx hb hdg (by rw [sd_and]; exact k)
/-- any rewriting of a computed int: sd_iandE q with q one of sd_and1, sd_and15, sd_and31, sd_andM, sd_andn, sd_sbit -/
theorem sd_iandE {x y : Int32} {a : Nat} (q : x &&& y = nI a) (hx : p.tables.exec = Jvm.exec) (hb : c.code = cc) (hdg : decode cc pc = .ok (.iand, 1)) (k : W p l e R s m args below meth c H locs cells slots Q (F0 m (pc + 1) ls (.int (nI a) :: rest))) : W p l e R s m args below meth c H locs cells slots Q (F0 m pc ls (.int y :: .int x :: rest)) := lv_iand hx hb hdg (by rw [q]; exact k)
theorem sd_ior (hx : p.tables.exec = Jvm.exec) (hb : c.code = cc) {a b : Nat} (hdg : decode cc pc = .ok (.ior, 1)) (k : W p l e R s m args below meth c H locs cells slots Q (F0 m (pc + 1) ls (.int (nI (a ||| b)) :: rest))) : W p l e R s m args below meth c H locs cells slots Q (F0 m pc ls (.int (nI b) :: .int (nI a) :: rest)) := lv_ior hx hb hdg (by rw [sd_or]; exact k)
theorem sd_ishl1 (hx : p.tables.exec = Jvm.exec) (hb : c.code = cc) {a : Nat} (hdg : decode cc pc = .ok (.ishl, 1)) (ha : a < 32) (k : W p l e R s m args below meth c H locs cells slots Q (F0 m (pc + 1) ls (.int (nI (2 ^ a)) :: rest))) : W p l e R s m args below meth c H locs cells slots Q (F0 m pc ls (.int (nI a) :: .int (nI 1) :: rest)) := lv_ishl hx hb hdg (by rw [sd_shl1 ha]; exact k)
theorem sd_ishl2 (hx : p.tables.exec = Jvm.exec) (hb : c.code = cc) {a : Nat} (hdg : decode cc pc = .ok (.ishl, 1)) (k : W p l e R s m args below meth c H locs cells slots Q (F0 m (pc + 1) ls (.int (nI (2 * a)) :: rest))) : W p l e R s m args below meth c H locs cells slots Q (F0 m pc ls (.int (nI 1) :: .int (nI a) :: rest)) := lv_ishl hx hb hdg (by rw [sd_shl2]; exact k)
theorem sd_ishr (hx : p.tables.exec = Jvm.exec) (hb : c.code = cc) {a b : Nat} (hdg : decode cc pc = .ok (.ishr, 1)) (ha : a < 2 ^ 31) (hk : b < 32) (k : W p l e R s m args below meth c H locs cells slots Q (F0 m (pc + 1) ls (.int (nI (a / 2 ^ b)) :: rest))) : W p l e R s m args below meth c H locs cells slots Q (F0 m pc ls (.int (nI b) :: .int (nI a) :: rest)) := lv_ishr hx hb hdg (by rw [sd_shr ha hk]; exact k)
theorem sd_iushr (hx : p.tables.exec = Jvm.exec) (hb : c.code = cc) {a b : Nat} (hdg : decode cc pc = .ok (.iushr, 1)) (ha : a < 2 ^ 32) (hk : b < 32) (k : W p l e R s m args below meth c H locs cells slots Q (F0 m (pc + 1) ls (.int (nI (a / 2 ^ b)) :: rest))) : W p l e R s m args below meth c H locs cells slots Q (F0 m pc ls (.int (nI b) :: .int (nI a) :: rest)) := lv_iushr hx hb hdg (sd_ushr ha hk) k
theorem sd_idiv (hx : p.tables.exec = Jvm.exec) (hb : c.code = cc) {a b : Nat} (hdg : decode cc pc = .ok (.idiv, 1)) (ha : a < 2 ^ 31) (h0 : 0 < b) (hb2 : b < 2 ^ 31) (k : W p l e R s m args below meth c H locs cells slots Q (F0 m (pc + 1) ls (.int (nI (a / b)) :: rest))) : W p l e R s m args below meth c H locs cells slots Q (F0 m pc ls (.int (nI b) :: .int (nI a) :: rest)) := lv_idiv hx hb hdg (nI_ne0 h0 hb2) (by rw [pk_div ha h0 hb2]; exact k)
theorem sd_irem (hx : p.tables.exec = Jvm.exec) (hb : c.code = cc) {a b : Nat} (hdg : decode cc pc = .ok (.irem, 1)) (ha : a < 2 ^ 31) (h0 : 0 < b) (hb2 : b < 2 ^ 31) (k : W p l e R s m args below meth c H locs cells slots Q (F0 m (pc + 1) ls (.int (nI (a % b)) :: rest))) : W p l e R s m args below meth c H locs cells slots Q (F0 m pc ls (.int (nI b) :: .int (nI a) :: rest)) := lv_irem hx hb hdg (nI_ne0 h0 hb2) (by rw [pk_rem ha h0 hb2]; exact k)
theorem sd_i2l (hx : p.tables.exec = Jvm.exec) (hb : c.code = cc) {a : Nat} (hdg : decode cc pc = .ok (.i2l, 1)) (ha : a < 2 ^ 31) (k : W p l e R s m args below meth c H locs cells slots Q (F0 m (pc + 1) ls (.long (lN a) :: rest))) : W p l e R s m args below meth c H locs cells slots Q (F0 m pc ls (.int (nI a) :: rest)) := lv_i2l hx hb hdg (nI_l ha) k
theorem sd_ladd (hx : p.tables.exec = Jvm.exec) (hb : c.code = cc) {a b : Nat} (hdg : decode cc pc = .ok (.ladd, 1)) (k : W p l e R s m args below meth c H locs cells slots Q (F0 m (pc + 1) ls (.long (lN (a + b)) :: rest))) : W p l e R s m args below meth c H locs cells slots Q (F0 m pc ls (.long (lN b) :: .long (lN a) :: rest)) := lv_ladd hx hb hdg (by rw [lN_add]; exact k)
theorem sd_iinc (hx : p.tables.exec = Jvm.exec) (hb : c.code = cc) {i k x : Nat} {lv lv' : List (Nat × Value)} (hdg : decode cc pc = .ok (.iinc i 1, 3)) (hl : lv_has ls nL lv) (hk : lv[k]? = some (i, .int (nI x))) (hn : i < nL) (hl' : (i, Value.int (nI (x + 1))) :: lv.filter (fun q => !(q.1 == i) && !(q.1 + 1 == i && q.2.category == 2)) = lv')
    (kk : ∀ ls' : Array Slot, lv_has ls' nL lv' → W p l e R s m args below meth c H locs cells slots Q (F0 m (pc + 3) ls' rest)) : W p l e R s m args below meth c H locs cells slots Q (F0 m pc ls rest) := lv_iinc hx hb hdg hl hk (sd_inc x) hn hl' kk
/-! branches -/
theorem sd_icmp_eq (hx : p.tables.exec = Jvm.exec) (hb : c.code = cc) {a b : Nat} {off : Int} {tgt : Nat} (hdg : decode cc pc = .ok (.if_icmp .eq off, 3)) (ht : (pc : Int) + off = (tgt : Int)) (ha : a < 2 ^ 31) (hb2 : b < 2 ^ 31)
    (kt : a = b → W p l e R s m args below meth c H locs cells slots Q (F0 m tgt ls rest)) (kf : a ≠ b → W p l e R s m args below meth c H locs cells slots Q (F0 m (pc + 3) ls rest)) : W p l e R s m args below meth c H locs cells slots Q (F0 m pc ls (.int (nI b) :: .int (nI a) :: rest)) := lv_icmp_eq hx hb hdg ht (fun q => kt ((nI_eq ha hb2).mp q)) (fun q => kf (fun z => q ((nI_eq ha hb2).mpr z)))
theorem sd_icmp_ne (hx : p.tables.exec = Jvm.exec) (hb : c.code = cc) {a b : Nat} {off : Int} {tgt : Nat} (hdg : decode cc pc = .ok (.if_icmp .ne off, 3)) (ht : (pc : Int) + off = (tgt : Int)) (ha : a < 2 ^ 31) (hb2 : b < 2 ^ 31)
    (kt : a ≠ b → W p l e R s m args below meth c H locs cells slots Q (F0 m tgt ls rest)) (kf : a = b → W p l e R s m args below meth c H locs cells slots Q (F0 m (pc + 3) ls rest)) : W p l e R s m args below meth c H locs cells slots Q (F0 m pc ls (.int (nI b) :: .int (nI a) :: rest)) := lv_icmp_ne hx hb hdg ht (fun q => kt (fun z => q ((nI_eq ha hb2).mpr z))) (fun q => kf ((nI_eq ha hb2).mp q))
theorem sd_icmp_ge (hx : p.tables.exec = Jvm.exec) (hb : c.code = cc) {a b : Nat} {off : Int} {tgt : Nat} (hdg : decode cc pc = .ok (.if_icmp .ge off, 3)) (ht : (pc : Int) + off = (tgt : Int)) (ha : a < 2 ^ 31) (hb2 : b < 2 ^ 31)
    (kt : b ≤ a → W p l e R s m args below meth c H locs cells slots Q (F0 m tgt ls rest)) (kf : a < b → W p l e R s m args below meth c H locs cells slots Q (F0 m (pc + 3) ls rest)) : W p l e R s m args below meth c H locs cells slots Q (F0 m pc ls (.int (nI b) :: .int (nI a) :: rest)) := lv_icmp_ge hx hb hdg ht (fun q => kt ((nI_leI hb2 ha).mp q)) (fun q => kf (Nat.not_le.mp (fun z => q ((nI_leI hb2 ha).mpr z))))
theorem sd_icmp_gt (hx : p.tables.exec = Jvm.exec) (hb : c.code = cc) {a b : Nat} {off : Int} {tgt : Nat} (hdg : decode cc pc = .ok (.if_icmp .gt off, 3)) (ht : (pc : Int) + off = (tgt : Int)) (ha : a < 2 ^ 31) (hb2 : b < 2 ^ 31)
    (kt : b < a → W p l e R s m args below meth c H locs cells slots Q (F0 m tgt ls rest)) (kf : a ≤ b → W p l e R s m args below meth c H locs cells slots Q (F0 m (pc + 3) ls rest)) : W p l e R s m args below meth c H locs cells slots Q (F0 m pc ls (.int (nI b) :: .int (nI a) :: rest)) := lv_icmp_gt hx hb hdg ht (fun q => kt ((nI_ltI hb2 ha).mp q)) (fun q => kf (Nat.not_lt.mp (fun z => q ((nI_ltI hb2 ha).mpr z))))
theorem sd_if_eq (hx : p.tables.exec = Jvm.exec) (hb : c.code = cc) {a : Nat} {off : Int} {tgt : Nat} (hdg : decode cc pc = .ok (.ifCond .eq off, 3)) (ht : (pc : Int) + off = (tgt : Int)) (ha : a < 2 ^ 31)
    (kt : a = 0 → W p l e R s m args below meth c H locs cells slots Q (F0 m tgt ls rest)) (kf : a ≠ 0 → W p l e R s m args below meth c H locs cells slots Q (F0 m (pc + 3) ls rest)) : W p l e R s m args below meth c H locs cells slots Q (F0 m pc ls (.int (nI a) :: rest)) := lv_if_eq hx hb hdg ht (fun q => kt ((nI_eq ha (by decide)).mp q)) (fun q => kf (fun z => q (by rw [z]; rfl)))
theorem sd_if_ne (hx : p.tables.exec = Jvm.exec) (hb : c.code = cc) {a : Nat} {off : Int} {tgt : Nat} (hdg : decode cc pc = .ok (.ifCond .ne off, 3)) (ht : (pc : Int) + off = (tgt : Int)) (ha : a < 2 ^ 31)
    (kt : a ≠ 0 → W p l e R s m args below meth c H locs cells slots Q (F0 m tgt ls rest)) (kf : a = 0 → W p l e R s m args below meth c H locs cells slots Q (F0 m (pc + 3) ls rest)) : W p l e R s m args below meth c H locs cells slots Q (F0 m pc ls (.int (nI a) :: rest)) := lv_if_ne hx hb hdg ht (fun q => kt (fun z => q (by rw [z]; rfl))) (fun q => kf ((nI_eq ha (by decide)).mp q))
theorem sd_if_le (hx : p.tables.exec = Jvm.exec) (hb : c.code = cc) {a : Nat} {off : Int} {tgt : Nat} (hdg : decode cc pc = .ok (.ifCond .le off, 3)) (ht : (pc : Int) + off = (tgt : Int)) (ha : a < 2 ^ 31)
    (kt : a = 0 → W p l e R s m args below meth c H locs cells slots Q (F0 m tgt ls rest)) (kf : 0 < a → W p l e R s m args below meth c H locs cells slots Q (F0 m (pc + 3) ls rest)) : W p l e R s m args below meth c H locs cells slots Q (F0 m pc ls (.int (nI a) :: rest)) := lv_if_le hx hb hdg ht (fun q => kt (Nat.le_zero.mp ((nI_leI (b := 0) ha (by decide)).mp q))) (fun q => kf (Nat.pos_of_ne_zero (fun z => q (by rw [z]; decide))))
/-! fields and arrays -/
theorem sd_getX (E : sd_E p m c cc nL s args RX0 D d) (hW : sd_W D A H0 (sd_wX h d S) H locs) (k : Nat) {v : Value} (hk : k < 17) (hv : (sd_fX h S)[k]? = some v) {index : Nat} (hl : Cond.fieldLink RX0 index RX0 (TX0 k).2.1 (TX0 k).2.2.1 ∈ lw_all) (hdg : decode cc pc = .ok (.getfield index, 3))
    (kk : W p l e R s m args below meth c H locs cells slots Q (F0 m (pc + 3) ls (v :: rest))) : W p l e R s m args below meth c H locs cells slots Q (F0 m pc ls (.ref (h 0) :: rest)) :=
  va_get (ref := RX0) (C := RX0) (T := TX0) (N := 17) (ci := 0) (fs := sd_fX h S) E.1.1 E.1.2.1 E.1.2.2.2.2 in_X0 E.1.2.2.2.1 E.2 hW.1 0 rfl rfl k hk (E.1.2.2.2.2 _ hl) (fun x hx => by rw [sd_TX0] at hx; exact hx) hv hdg kk
theorem sd_putX (E : sd_E p m c cc nL s args RX0 D d) (hW : sd_W D A H0 (sd_wX h d S) H locs) (k : Nat) {x : Nat} (hk : k = 0 ∨ k = 1 ∨ k = 3 ∨ k = 6 ∨ k = 7 ∨ k = 10 ∨ k = 11) (hn : narrow (tyX0 k) (.int (nI x)) = .int (nI x)) (hf : fits (tyX0 k) (.int (nI x)) = true) {index : Nat} (hl : Cond.fieldLink RX0 index RX0 (TX0 k).2.1 (TX0 k).2.2.1 ∈ lw_all) (hdg : decode cc pc = .ok (.putfield index, 3))
    (kk : ∀ (H1 : Heap) (locs1 : List Loc), sd_W D A H0 (sd_wX h d (sd_up S 0 k x)) H1 locs1 → W p l e R s m args below meth c H1 locs1 cells slots Q (F0 m (pc + 3) ls rest)) : W p l e R s m args below meth c H locs cells slots Q (F0 m pc ls (.int (nI x) :: .ref (h 0) :: rest)) := by
  have h17 : k < 17 := by omega
  refine va_put (ref := RX0) (C := RX0) (T := TX0) (N := 17) (ci := 0) (fs := sd_fX h S) (ty := tyX0 k) (v := .int (nI x)) E.1.1 E.1.2.1 E.1.2.2.2.2 in_X0 tyX0 tyX0_ok nmX0 E.1.2.2.2.1 E.2 hW.1 hW.2.1 hW.2.2 0 rfl rfl k h17 (E.1.2.2.2.2 _ hl) (fun x hx => by rw [sd_TX0] at hx; exact hx) ?_ (tyX0_ok k h17) hn hf (show k < 17 from h17) hdg (fun H1 locs1 a b c => kk H1 locs1 ?_)
  · rcases hk with rfl | rfl | rfl | rfl | rfl | rfl | rfl <;> rfl
  · rw [sd_setXf hk] at a b
    exact ⟨a, b, c⟩
theorem sd_getM (E : sd_E p m c cc nL s args RX1 D d) (hW : sd_W D A H0 (sd_wM h d S) H locs) (k : Nat) {v : Value} (hk : k < 7) (hv : (sd_fM h S)[k]? = some v) {index : Nat} (hl : Cond.fieldLink RX1 index RX1 (TX1 k).2.1 (TX1 k).2.2.1 ∈ lw_all) (hdg : decode cc pc = .ok (.getfield index, 3))
    (kk : W p l e R s m args below meth c H locs cells slots Q (F0 m (pc + 3) ls (v :: rest))) : W p l e R s m args below meth c H locs cells slots Q (F0 m pc ls (.ref (h 0) :: rest)) :=
  va_get (ref := RX1) (C := RX1) (T := TX1) (N := 7) (ci := 1) (fs := sd_fM h S) E.1.1 E.1.2.1 E.1.2.2.2.2 in_X1 E.1.2.2.2.1 E.2 hW.1 0 rfl rfl k hk (E.1.2.2.2.2 _ hl) (fun x hx => by rw [sd_TX1] at hx; exact hx) hv hdg kk
theorem sd_putM (E : sd_E p m c cc nL s args RX1 D d) (hW : sd_W D A H0 (sd_wM h d S) H locs) {x : Nat} {index : Nat} (hl : Cond.fieldLink RX1 index RX1 (TX1 2).2.1 (TX1 2).2.2.1 ∈ lw_all) (hdg : decode cc pc = .ok (.putfield index, 3))
    (kk : ∀ (H1 : Heap) (locs1 : List Loc), sd_W D A H0 (sd_wM h d (sd_up S 0 2 x)) H1 locs1 → W p l e R s m args below meth c H1 locs1 cells slots Q (F0 m (pc + 3) ls rest)) : W p l e R s m args below meth c H locs cells slots Q (F0 m pc ls (.int (nI x) :: .ref (h 0) :: rest)) :=
  va_put (ref := RX1) (C := RX1) (T := TX1) (N := 7) (ci := 1) (fs := sd_fM h S) (ty := .int) (v := .int (nI x)) E.1.1 E.1.2.1 E.1.2.2.2.2 in_X1 tyX1 tyX1_ok nmX1 E.1.2.2.2.1 E.2 hW.1 hW.2.1 hW.2.2 0 rfl rfl 2 (by decide) (E.1.2.2.2.2 _ hl) (fun x hx => by rw [sd_TX1] at hx; exact hx) rfl (by decide +kernel) rfl rfl (show 2 < 7 by decide) hdg (fun H1 locs1 a b c => kk H1 locs1 ⟨a, b, c⟩)
theorem sd_ald (E : sd_E p m c cc nL s args own D d) (hW : sd_W D A H0 ws H locs) (q0 : Nat) {a N : Nat} {f : Nat → Nat} (ha : ws[q0]? = some (a, .inl (d 0, N, .inl (fun j => nI (f j))))) {j : Nat} (hj : j < N) (hN : N < 2 ^ 31) (hdg : decode cc pc = .ok (.iaload, 1))
    (kk : W p l e R s m args below meth c H locs cells slots Q (F0 m (pc + 1) ls (.int (nI (f j)) :: rest))) : W p l e R s m args below meth c H locs cells slots Q (F0 m pc ls (.int (nI j) :: .ref a :: rest)) := by
  refine va_iald E.1.1 E.1.2.1 E.2 hW.1 q0 0 ha rfl (vp_in_nI hj hN) hdg ?_
  rw [nI_clamp (Nat.lt_trans hj hN)]
  exact kk
theorem sd_zald (E : sd_E p m c cc nL s args own D d) (hW : sd_W D A H0 ws H locs) (q0 : Nat) {a N : Nat} {f : Nat → Nat} (ha : ws[q0]? = some (a, .inl (d 1, N, .inl (fun j => nI (f j))))) {j : Nat} (hj : j < N) (hN : N < 2 ^ 31) (hdg : decode cc pc = .ok (.baload, 1))
    (kk : W p l e R s m args below meth c H locs cells slots Q (F0 m (pc + 1) ls (.int (nI (f j)) :: rest))) : W p l e R s m args below meth c H locs cells slots Q (F0 m pc ls (.int (nI j) :: .ref a :: rest)) := by
  refine va_zald E.1.1 E.1.2.1 E.2 hW.1 q0 1 ha rfl (vp_in_nI hj hN) hdg ?_
  rw [nI_clamp (Nat.lt_trans hj hN)]
  exact kk
theorem sd_lald (E : sd_E p m c cc nL s args own D d) (hW : sd_W D A H0 ws H locs) (q0 : Nat) {a N : Nat} {f : Nat → Nat} (ha : ws[q0]? = some (a, .inl (d 2, N, .inr (.inl (fun j => lN (f j)))))) {j : Nat} (hj : j < N) (hN : N < 2 ^ 31) (hdg : decode cc pc = .ok (.laload, 1))
    (kk : W p l e R s m args below meth c H locs cells slots Q (F0 m (pc + 1) ls (.long (lN (f j)) :: rest))) : W p l e R s m args below meth c H locs cells slots Q (F0 m pc ls (.int (nI j) :: .ref a :: rest)) := by
  refine va_lald E.1.1 E.1.2.1 E.2 hW.1 q0 2 ha rfl (vp_in_nI hj hN) hdg ?_
  rw [nI_clamp (Nat.lt_trans hj hN)]
  exact kk
theorem sd_ast (E : sd_E p m c cc nL s args own D d) (hW : sd_W D A H0 ws H locs) (q0 : Nat) {a N : Nat} {f : Nat → Nat} (ha : ws[q0]? = some (a, .inl (d 0, N, .inl (fun j => nI (f j))))) {j x : Nat} (hj : j < N) (hN : N < 2 ^ 31) (hdg : decode cc pc = .ok (.iastore, 1))
    (kk : ∀ (H1 : Heap) (locs1 : List Loc), sd_W D A H0 (ws.set q0 (a, .inl (d 0, N, .inl (fun i => nI (if i = j then x else f i))))) H1 locs1 → W p l e R s m args below meth c H1 locs1 cells slots Q (F0 m (pc + 1) ls rest)) : W p l e R s m args below meth c H locs cells slots Q (F0 m pc ls (.int (nI x) :: .int (nI j) :: .ref a :: rest)) := by
  refine va_iast E.1.1 E.1.2.1 E.2 hW.1 hW.2.1 hW.2.2 q0 0 ha rfl (vp_in_nI hj hN) hdg (fun H1 locs1 a b c => kk H1 locs1 ?_)
  rw [sd_updN f (Nat.lt_trans hj hN)] at a b
  exact ⟨a, b, c⟩
theorem sd_zast (E : sd_E p m c cc nL s args own D d) (hW : sd_W D A H0 ws H locs) (q0 : Nat) {a N : Nat} {f : Nat → Nat} (ha : ws[q0]? = some (a, .inl (d 1, N, .inl (fun j => nI (f j))))) {j x : Nat} (hx2 : x < 2) (hj : j < N) (hN : N < 2 ^ 31) (hdg : decode cc pc = .ok (.bastore, 1))
    (kk : ∀ (H1 : Heap) (locs1 : List Loc), sd_W D A H0 (ws.set q0 (a, .inl (d 1, N, .inl (fun i => nI (if i = j then x else f i))))) H1 locs1 → W p l e R s m args below meth c H1 locs1 cells slots Q (F0 m (pc + 1) ls rest)) : W p l e R s m args below meth c H locs cells slots Q (F0 m pc ls (.int (nI x) :: .int (nI j) :: .ref a :: rest)) := by
  refine va_zast E.1.1 E.1.2.1 E.2 hW.1 hW.2.1 hW.2.2 q0 1 ha rfl (vp_in_nI hj hN) hdg (fun H1 locs1 a b c => kk H1 locs1 ?_)
  rw [sd_nz hx2, sd_updN f (Nat.lt_trans hj hN)] at a b
  exact ⟨a, b, c⟩
theorem sd_last (E : sd_E p m c cc nL s args own D d) (hW : sd_W D A H0 ws H locs) (q0 : Nat) {a N : Nat} {f : Nat → Nat} (ha : ws[q0]? = some (a, .inl (d 2, N, .inr (.inl (fun j => lN (f j)))))) {j x : Nat} (hj : j < N) (hN : N < 2 ^ 31) (hdg : decode cc pc = .ok (.lastore, 1))
    (kk : ∀ (H1 : Heap) (locs1 : List Loc), sd_W D A H0 (ws.set q0 (a, .inl (d 2, N, .inr (.inl (fun i => lN (if i = j then x else f i)))))) H1 locs1 → W p l e R s m args below meth c H1 locs1 cells slots Q (F0 m (pc + 1) ls rest)) : W p l e R s m args below meth c H locs cells slots Q (F0 m pc ls (.long (lN x) :: .int (nI j) :: .ref a :: rest)) := by
  refine va_last E.1.1 E.1.2.1 E.2 hW.1 hW.2.1 hW.2.2 q0 2 ha rfl (vp_in_nI hj hN) hdg (fun H1 locs1 a b c => kk H1 locs1 ?_)
  rw [sd_updL f (Nat.lt_trans hj hN)] at a b
  exact ⟨a, b, c⟩
theorem sd_astX (E : sd_E p m c cc nL s args own D d) (hW : sd_W D A H0 (sd_wX h d S) H locs) (c0 : Nat) (hc : c0 = 1 ∨ c0 = 2 ∨ c0 = 3 ∨ c0 = 4 ∨ c0 = 5 ∨ c0 = 6 ∨ c0 = 7) {j x : Nat} (hj : j < sd_lX c0) (hdg : decode cc pc = .ok (.iastore, 1))
    (kk : ∀ (H1 : Heap) (locs1 : List Loc), sd_W D A H0 (sd_wX h d (sd_up S c0 j x)) H1 locs1 → W p l e R s m args below meth c H1 locs1 cells slots Q (F0 m (pc + 1) ls rest)) : W p l e R s m args below meth c H locs cells slots Q (F0 m pc ls (.int (nI x) :: .int (nI j) :: .ref (h c0) :: rest)) := by
  have hN : sd_lX c0 < 2 ^ 31 := by rcases hc with rfl | rfl | rfl | rfl | rfl | rfl | rfl <;> decide
  have ha : (sd_wX h d S)[c0]? = some (h c0, .inl (d 0, sd_lX c0, .inl (fun j => nI (S c0 j)))) := by rcases hc with rfl | rfl | rfl | rfl | rfl | rfl | rfl <;> rfl
  refine sd_ast E hW c0 ha hj hN hdg (fun H1 locs1 a => kk H1 locs1 ?_)
  rw [sd_setXi hc] at a
  exact a
theorem sd_zastX (E : sd_E p m c cc nL s args own D d) (hW : sd_W D A H0 (sd_wX h d S) H locs) {j x : Nat} (hx2 : x < 2) (hj : j < 256) (hdg : decode cc pc = .ok (.bastore, 1))
    (kk : ∀ (H1 : Heap) (locs1 : List Loc), sd_W D A H0 (sd_wX h d (sd_up S 8 j x)) H1 locs1 → W p l e R s m args below meth c H1 locs1 cells slots Q (F0 m (pc + 1) ls rest)) : W p l e R s m args below meth c H locs cells slots Q (F0 m pc ls (.int (nI x) :: .int (nI j) :: .ref (h 8) :: rest)) :=
  sd_zast (f := S 8) E hW 8 rfl hx2 hj (by decide) hdg (fun H1 locs1 a => kk H1 locs1 a)
theorem sd_lastX (E : sd_E p m c cc nL s args own D d) (hW : sd_W D A H0 (sd_wX h d S) H locs) (c0 : Nat) (hc : c0 = 9 ∨ c0 = 10) {j x : Nat} (hj : j < 16) (hdg : decode cc pc = .ok (.lastore, 1))
    (kk : ∀ (H1 : Heap) (locs1 : List Loc), sd_W D A H0 (sd_wX h d (sd_up S c0 j x)) H1 locs1 → W p l e R s m args below meth c H1 locs1 cells slots Q (F0 m (pc + 1) ls rest)) : W p l e R s m args below meth c H locs cells slots Q (F0 m pc ls (.long (lN x) :: .int (nI j) :: .ref (h c0) :: rest)) := by
  have ha : (sd_wX h d S)[c0]? = some (h c0, .inl (d 2, 16, .inr (.inl (fun j => lN (S c0 j))))) := by rcases hc with rfl | rfl <;> rfl
  refine sd_last E hW c0 ha hj (by decide) hdg (fun H1 locs1 a => kk H1 locs1 ?_)
  rw [sd_setXl hc] at a
  exact a
theorem sd_astM (E : sd_E p m c cc nL s args own D d) (hW : sd_W D A H0 (sd_wM h d S) H locs) (c0 : Nat) (hc : c0 = 1 ∨ c0 = 4) {j x : Nat} (hj : j < sd_lM c0) (hdg : decode cc pc = .ok (.iastore, 1))
    (kk : ∀ (H1 : Heap) (locs1 : List Loc), sd_W D A H0 (sd_wM h d (sd_up S c0 j x)) H1 locs1 → W p l e R s m args below meth c H1 locs1 cells slots Q (F0 m (pc + 1) ls rest)) : W p l e R s m args below meth c H locs cells slots Q (F0 m pc ls (.int (nI x) :: .int (nI j) :: .ref (h c0) :: rest)) := by
  have hN : sd_lM c0 < 2 ^ 31 := by rcases hc with rfl | rfl <;> decide
  have ha : (sd_wM h d S)[c0]? = some (h c0, .inl (d 0, sd_lM c0, .inl (fun j => nI (S c0 j)))) := by rcases hc with rfl | rfl <;> rfl
  refine sd_ast E hW c0 ha hj hN hdg (fun H1 locs1 a => kk H1 locs1 ?_)
  rw [sd_setMi hc] at a
  exact a
theorem sd_zastM (E : sd_E p m c cc nL s args own D d) (hW : sd_W D A H0 (sd_wM h d S) H locs) (c0 : Nat) (hc : c0 = 2 ∨ c0 = 3) {j x : Nat} (hx2 : x < 2) (hj : j < sd_lM c0) (hdg : decode cc pc = .ok (.bastore, 1))
    (kk : ∀ (H1 : Heap) (locs1 : List Loc), sd_W D A H0 (sd_wM h d (sd_up S c0 j x)) H1 locs1 → W p l e R s m args below meth c H1 locs1 cells slots Q (F0 m (pc + 1) ls rest)) : W p l e R s m args below meth c H locs cells slots Q (F0 m pc ls (.int (nI x) :: .int (nI j) :: .ref (h c0) :: rest)) := by
  have hN : sd_lM c0 < 2 ^ 31 := by rcases hc with rfl | rfl <;> decide
  have ha : (sd_wM h d S)[c0]? = some (h c0, .inl (d 1, sd_lM c0, .inl (fun j => nI (S c0 j)))) := by rcases hc with rfl | rfl <;> rfl
  refine sd_zast E hW c0 ha hx2 hj hN hdg (fun H1 locs1 a => kk H1 locs1 ?_)
  rw [sd_setMz hc] at a
  exact a
theorem sd_lastM (E : sd_E p m c cc nL s args own D d) (hW : sd_W D A H0 (sd_wM h d S) H locs) (c0 : Nat) (hc : c0 = 5 ∨ c0 = 6) {j x : Nat} (hj : j < 16) (hdg : decode cc pc = .ok (.lastore, 1))
    (kk : ∀ (H1 : Heap) (locs1 : List Loc), sd_W D A H0 (sd_wM h d (sd_up S c0 j x)) H1 locs1 → W p l e R s m args below meth c H1 locs1 cells slots Q (F0 m (pc + 1) ls rest)) : W p l e R s m args below meth c H locs cells slots Q (F0 m pc ls (.long (lN x) :: .int (nI j) :: .ref (h c0) :: rest)) := by
  have ha : (sd_wM h d S)[c0]? = some (h c0, .inl (d 2, 16, .inr (.inl (fun j => lN (S c0 j))))) := by rcases hc with rfl | rfl <;> rfl
  refine sd_last E hW c0 ha hj (by decide) hdg (fun H1 locs1 a => kk H1 locs1 ?_)
  rw [sd_setMl hc] at a
  exact a
/-! returns -/
theorem sd_iret {σ : Type} {post : Int32 → σ → Prop} {w : σ → va_W} {v : Int32} (E : sd_E p m c cc nL s args own D d) (hr : meth.sig.returnType = some .int) (hlk : meth.locks = false) (u : σ) (hW : sd_W D A s.heap (w u) H locs) (hp : post v u) (hdg : decode cc pc = .ok (.ireturn, 1)) : W p l e R s m args below meth c H locs cells slots (MQ below (sd_Qi D post w A) args s cells slots A) (F0 m pc ls [.int v]) :=
  W.iret E.1.1 E.1.2.1 hr (fun t ht _ => ⟨⟨v, u, rfl, hp, by show va_P D vwCl (w u) t.heap; rw [ht]; exact hW.1⟩, hW.2.2.F ht⟩) hW.2.2.2.2 hdg hlk
theorem sd_zret {σ : Type} {post : Int32 → σ → Prop} {w : σ → va_W} {x : Nat} (hx2 : x < 2) (E : sd_E p m c cc nL s args own D d) (hr : meth.sig.returnType = some .boolean) (hlk : meth.locks = false) (u : σ) (hW : sd_W D A s.heap (w u) H locs) (hp : post (nI x) u) (hdg : decode cc pc = .ok (.ireturn, 1)) : W p l e R s m args below meth c H locs cells slots (MQ below (sd_Qi D post w A) args s cells slots A) (F0 m pc ls [.int (nI x)]) :=
  W.zret E.1.1 E.1.2.1 hr (sd_nr hx2) (fun t ht _ => ⟨⟨nI x, u, rfl, hp, by show va_P D vwCl (w u) t.heap; rw [ht]; exact hW.1⟩, hW.2.2.F ht⟩) hW.2.2.2.2 hdg hlk
theorem sd_lret {σ : Type} {post : Int64 → σ → Prop} {w : σ → va_W} {v : Int64} (E : sd_E p m c cc nL s args own D d) (hr : meth.sig.returnType = some .long) (hlk : meth.locks = false) (u : σ) (hW : sd_W D A s.heap (w u) H locs) (hp : post v u) (hdg : decode cc pc = .ok (.lreturn, 1)) : W p l e R s m args below meth c H locs cells slots (MQ below (sd_Ql D post w A) args s cells slots A) (F0 m pc ls [.long v]) :=
  W.lret E.1.1 E.1.2.1 hr (fun t ht _ => ⟨⟨v, u, rfl, hp, by show va_P D vwCl (w u) t.heap; rw [ht]; exact hW.1⟩, hW.2.2.F ht⟩) hW.2.2.2.2 hdg hlk
theorem sd_vret {σ : Type} {post : σ → Prop} {w : σ → va_W} (E : sd_E p m c cc nL s args own D d) (hr : meth.sig.returnType = none) (hlk : meth.locks = false) (u : σ) (hW : sd_W D A s.heap (w u) H locs) (hp : post u) (hdg : decode cc pc = .ok (.return_, 1)) : W p l e R s m args below meth c H locs cells slots (MQ below (sd_Qv D post w A) args s cells slots A) (F0 m pc ls []) :=
  W.vret E.1.1 E.1.2.1 hr (fun t ht _ => ⟨⟨u, rfl, hp, by show va_P D vwCl (w u) t.heap; rw [ht]; exact hW.1⟩, hW.2.2.F ht⟩) hW.2.2.2.2 hdg hlk
end
/-! a method's start -/
theorem sd_blind {av : List Value} {D : va_G} {d : Nat → ClassId} {ws : va_W} {sz : Nat} : FrameBlind (va_Pc av (sd_P D d ws sz)) := fun a U g mk q => by
  obtain ⟨q0, q1, qP, qK, qD⟩ := q
  exact ⟨q0, q1, qP, va_K.moved (u := U) (U := U.calling g mk a) (Vm.Alike.refl U.vm) qK, qD⟩
theorem sd_ofW {l : Launch} {y : MethodName} {cc : ByteArray} {nL : Nat} {ret : Option FieldType} {rm : Room} {av : List Value} {D : va_G} {d : Nat → ClassId} {ws : va_W} {sz : Nat} {Qc : (Nat → Prop) → Array Value → State → Outcome → State → Prop} {mc ms : Nat} {own : String} (hy : plainName y.cls = true) (ho : y.cls = own) (hn : (lg_sl av).length ≤ nL)
    (body : ∀ (p : Program) (e : Env) (s : State) (m : MethodId) (below : List Frame) (meth : Method) (c : Code) (ls : Array Slot) (A : Nat → Prop), sd_E p m c cc nL s av.toArray own D d → meth.sig.returnType = ret → meth.locks = false → meth.name = y.name → (∀ q, s.heap.size ≤ q → A q) → sd_W D A s.heap ws s.heap [] → lv_has ls nL (lv_args 0 av) →
      W p l e rm s m av.toArray below meth c s.heap [] 0 0 (MQ below (Qc A) av.toArray s mc ms A) (F0 m 0 ls [])) : Met l y (ws_ y cc nL ret) rm (va_Pc av (sd_P D d ws sz)) (Qc (va_A ws sz)) mc ms (va_A ws sz) := by
  refine Met.ofW (cc := cc) (maxL := nL) (ret := ret) hy rfl ?_
  intro p e s m args below meth c s₁ B hml hv
  obtain ⟨rfl, hsz, hP, hK, hD0⟩ := hv
  subst hsz
  have hts := atoms_spec (ws := ws_ y cc nL ret) B.pre
  have hts : ∀ w ∈ lw_all, w.before _ s = true := fun w h => hts w (List.mem_cons_of_mem _ h)
  have hown : s.vm.findClass own = some m.cls := by rw [← ho]; exact findClass_of_methodNamed B.named
  have hl := lv_entry av (n := nL) hn
  rw [lg_entry_eq]
  exact body p e s m below meth c _ (va_A ws s.heap.size) ⟨⟨B.exec, B.bytes, hml, hown, hts⟩, hK⟩ B.returns B.notSynchronized (name_of_methodNamed B.named B.method).1 (fun q h => Or.inr h) ⟨hP, hD0.self, va_S.rf⟩ hl
/-! calls, on the caller's whole world -/
section
variable {p : Program} {l : Launch} {e : Env} {R : Room} {s : State} {m : MethodId} {args : Array Value} {below : List Frame} {meth : Method} {c : Code} {H : Heap} {locs : List Loc} {cells slots : Nat} {Q : State → Prop}
variable {cc : ByteArray} {pc : Nat} {ls : Array Slot} {rest st : List Value} {nL : Nat} {own : String} {D : va_G} {d : Nat → ClassId} {A : Nat → Prop} {H0 : Heap} {ws : va_W}
variable {y : MethodName} {by_ : ByteArray} {L index n ci : Nat} {ret : Option FieldType} {rm : Room} {a : Nat} {fs : List Value} {kc : vw_C}
theorem sd_W.free (hW : sd_W D A H0 ws H locs) (hA : ∀ q, H0.size ≤ q → A q) : ∀ q, va_A ws H.size q → A q := by
  intro q hq
  rcases hq with ⟨k, e, hk⟩ | hq
  · exact hW.2.1.2 k _ hk
  · exact hA q (Nat.le_trans hW.2.2.1 hq)
theorem sd_preS (E : sd_E p m c cc nL s args own D d) (hW : sd_W D A H0 ws H locs) (As : List Value) : PreS s H (va_Pc As (sd_P D d ws H.size)) As :=
  ⟨sd_blind, fun U hU hWm => ⟨rfl, by rw [hU], by rw [hU]; exact hW.1, va_K.moved hWm.alike E.2, hW.2.1.weaken (fun _ _ _ _ => trivial)⟩⟩
theorem sd_preV (E : sd_E p m c cc nL s args own D d) (hW : sd_W D A H0 ws H locs) (As : List Value) (hr : ws[0]? = some (a, .inr (ci, fs))) (hc : vwCl[ci]? = some kc) : PreV s H kc.1 a (va_Pc (.ref a :: As) (sd_P D d ws H.size)) As :=
  ⟨sd_blind, va_recv E.2 hW.1 hc hr, fun U hU hWm => ⟨rfl, by rw [hU], by rw [hU]; exact hW.1, va_K.moved hWm.alike E.2, hW.2.1.weaken (fun _ _ _ _ => trivial)⟩⟩
theorem sd_callVi {σ : Type} {post : Int32 → σ → Prop} {w : σ → va_W} (E : sd_E p m c cc nL s args own D d) (hW : sd_W D A s.heap ws H locs) (hA : ∀ q, s.heap.size ≤ q → A q) (As : List Value) (hr : ws[0]? = some (a, .inr (ci, fs))) (hc : vwCl[ci]? = some kc)
    (hM : Met l y (ws_ y by_ L ret) rm (va_Pc (.ref a :: As) (sd_P D d ws H.size)) (sd_Qi D post w (va_A ws H.size)) 0 0 (va_A ws H.size)) (cw : CallW R s args own kc.1 index y by_ L ret (ws_ y by_ L ret) rm 0 0 n) (hn : As.length = n) (had : ∀ u, (w u).map (fun q => q.1) = ws.map (fun q => q.1)) (hsz : ls.size = nL) (hst : st = As.reverse ++ .ref a :: rest) (hrest : (rest.map fun v => v.category).sum ≤ 8) (hdg : decode cc pc = .ok (.invokevirtual index, 3)) (hR : cells ≤ R.cells ∧ slots ≤ R.slots)
    (kk : ∀ (r : Int32) (u : σ) (H1 : Heap) (locs1 : List Loc), post r u → sd_W D A s.heap (w u) H1 locs1 → W p l e R s m args below meth c H1 locs1 cells slots Q (F0 m (pc + 3) ls (.int r :: rest))) : W p l e R s m args below meth c H locs cells slots Q (F0 m pc ls st) := by
  have hF := hW.free hA
  refine va_calli (va_runV (As := As) (rest := rest) E.1 hM cw (sd_preV E hW As hr hc) rfl hn hsz hst (by simpa using hrest) hdg hR) hW.2.2 (fun q _ h => hF q h) hF (fun r u t H1 locs1 ht hvm hw hB hz1 hk1 hS => ?_)
  exact kk r u H1 locs1 hw ⟨by rw [← ht]; exact hB, sd_D_of hW.2.1 (had u) (fun _ h => h), hS⟩
theorem sd_callVv {σ : Type} {post : σ → Prop} {w : σ → va_W} (E : sd_E p m c cc nL s args own D d) (hW : sd_W D A s.heap ws H locs) (hA : ∀ q, s.heap.size ≤ q → A q) (As : List Value) (hr : ws[0]? = some (a, .inr (ci, fs))) (hc : vwCl[ci]? = some kc)
    (hM : Met l y (ws_ y by_ L ret) rm (va_Pc (.ref a :: As) (sd_P D d ws H.size)) (sd_Qv D post w (va_A ws H.size)) 0 0 (va_A ws H.size)) (cw : CallW R s args own kc.1 index y by_ L ret (ws_ y by_ L ret) rm 0 0 n) (hn : As.length = n) (had : ∀ u, (w u).map (fun q => q.1) = ws.map (fun q => q.1)) (hsz : ls.size = nL) (hst : st = As.reverse ++ .ref a :: rest) (hrest : (rest.map fun v => v.category).sum ≤ 8) (hdg : decode cc pc = .ok (.invokevirtual index, 3)) (hR : cells ≤ R.cells ∧ slots ≤ R.slots)
    (kk : ∀ (u : σ) (H1 : Heap) (locs1 : List Loc), post u → sd_W D A s.heap (w u) H1 locs1 → W p l e R s m args below meth c H1 locs1 cells slots Q (F0 m (pc + 3) ls rest)) : W p l e R s m args below meth c H locs cells slots Q (F0 m pc ls st) := by
  have hF := hW.free hA
  refine va_callv (va_runV (As := As) (rest := rest) E.1 hM cw (sd_preV E hW As hr hc) rfl hn hsz hst (by simpa using hrest) hdg hR) hW.2.2 (fun q _ h => hF q h) hF (fun u t H1 locs1 ht hvm hw hB hz1 hk1 hS => ?_)
  exact kk u H1 locs1 hw ⟨by rw [← ht]; exact hB, sd_D_of hW.2.1 (had u) (fun _ h => h), hS⟩
theorem sd_callSi {σ : Type} {post : Int32 → σ → Prop} {w : σ → va_W} (E : sd_E p m c cc nL s args own D d) (hW : sd_W D A s.heap ws H locs) (hA : ∀ q, s.heap.size ≤ q → A q) (As : List Value)
    (hM : Met l y (ws_ y by_ L ret) rm (va_Pc As (sd_P D d ws H.size)) (sd_Qi D post w (va_A ws H.size)) 0 0 (va_A ws H.size)) (cw : CallB R s args own index y by_ L ret (ws_ y by_ L ret) rm 0 0 n ∧ (Cond.static y).before args s = true) (hn : As.length = n) (had : ∀ u, (w u).map (fun q => q.1) = ws.map (fun q => q.1)) (hsz : ls.size = nL) (hst : st = As.reverse ++ rest) (hrest : (rest.map fun v => v.category).sum ≤ 8) (hdg : decode cc pc = .ok (.invokestatic index, 3)) (hR : cells ≤ R.cells ∧ slots ≤ R.slots)
    (kk : ∀ (r : Int32) (u : σ) (H1 : Heap) (locs1 : List Loc), post r u → sd_W D A s.heap (w u) H1 locs1 → W p l e R s m args below meth c H1 locs1 cells slots Q (F0 m (pc + 3) ls (.int r :: rest))) : W p l e R s m args below meth c H locs cells slots Q (F0 m pc ls st) := by
  have hF := hW.free hA
  refine va_calli (va_runS (As := As) (rest := rest) E.1 hM cw (sd_preS E hW As) rfl hn hsz hst (by simpa using hrest) hdg hR) hW.2.2 (fun q _ h => hF q h) hF (fun r u t H1 locs1 ht hvm hw hB hz1 hk1 hS => ?_)
  exact kk r u H1 locs1 hw ⟨by rw [← ht]; exact hB, sd_D_of hW.2.1 (had u) (fun _ h => h), hS⟩
theorem sd_callSv {σ : Type} {post : σ → Prop} {w : σ → va_W} (E : sd_E p m c cc nL s args own D d) (hW : sd_W D A s.heap ws H locs) (hA : ∀ q, s.heap.size ≤ q → A q) (As : List Value)
    (hM : Met l y (ws_ y by_ L ret) rm (va_Pc As (sd_P D d ws H.size)) (sd_Qv D post w (va_A ws H.size)) 0 0 (va_A ws H.size)) (cw : CallB R s args own index y by_ L ret (ws_ y by_ L ret) rm 0 0 n ∧ (Cond.static y).before args s = true) (hn : As.length = n) (had : ∀ u, (w u).map (fun q => q.1) = ws.map (fun q => q.1)) (hsz : ls.size = nL) (hst : st = As.reverse ++ rest) (hrest : (rest.map fun v => v.category).sum ≤ 8) (hdg : decode cc pc = .ok (.invokestatic index, 3)) (hR : cells ≤ R.cells ∧ slots ≤ R.slots)
    (kk : ∀ (u : σ) (H1 : Heap) (locs1 : List Loc), post u → sd_W D A s.heap (w u) H1 locs1 → W p l e R s m args below meth c H1 locs1 cells slots Q (F0 m (pc + 3) ls rest)) : W p l e R s m args below meth c H locs cells slots Q (F0 m pc ls st) := by
  have hF := hW.free hA
  refine va_callv (va_runS (As := As) (rest := rest) E.1 hM cw (sd_preS E hW As) rfl hn hsz hst (by simpa using hrest) hdg hR) hW.2.2 (fun q _ h => hF q h) hF (fun u t H1 locs1 ht hvm hw hB hz1 hk1 hS => ?_)
  exact kk u H1 locs1 hw ⟨by rw [← ht]; exact hB, sd_D_of hW.2.1 (had u) (fun _ h => h), hS⟩
end
end
section
/-! PURE 1: machines with two letters, words as numbers (1 and then the letters), counting. No program in sight -/
def dm_run (g : Nat → Nat) (p : Nat) (c : Nat) : Nat := if c ≤ 1 then p else g (2 * dm_run g p (c / 2) + c % 2)
termination_by c
decreasing_by omega
theorem dm_run_1 (g : Nat → Nat) (p : Nat) : dm_run g p 1 = p := by rw [dm_run]; simp
theorem dm_run_s (g : Nat → Nat) (p : Nat) {c x : Nat} (hc : 1 ≤ c) (hx : x < 2) : dm_run g p (2 * c + x) = g (2 * dm_run g p c + x) := by
  rw [dm_run, if_neg (by omega), show (2 * c + x) / 2 = c by omega, show (2 * c + x) % 2 = x by omega]
theorem dm_run_c (g : Nat → Nat) (p : Nat) {c : Nat} (hc : 1 ≤ c) : ∀ (d r : Nat), r < 2 ^ d → dm_run g p (c * 2 ^ d + r) = dm_run g (dm_run g p c) (2 ^ d + r) := by
  intro d
  induction d with
  | zero =>
    intro r hr
    have h0 : r = 0 := by simpa using hr
    subst h0
    simp [dm_run_1]
  | succ d ih =>
    intro r hr
    have hp : 2 ^ (d + 1) = 2 * 2 ^ d := by rw [Nat.pow_succ, Nat.mul_comm]
    have e1 : c * 2 ^ (d + 1) + r = 2 * (c * 2 ^ d + r / 2) + r % 2 := by rw [hp, Nat.mul_left_comm]; omega
    have e2 : 2 ^ (d + 1) + r = 2 * (2 ^ d + r / 2) + r % 2 := by omega
    have h1 : 1 ≤ c * 2 ^ d + r / 2 := by
      have := Nat.mul_le_mul hc (Nat.one_le_two_pow (n := d))
      omega
    have h2 : 1 ≤ 2 ^ d + r / 2 := by
      have := Nat.one_le_two_pow (n := d)
      omega
    rw [e1, e2, dm_run_s _ _ h1 (Nat.mod_lt _ (by decide)), dm_run_s _ _ h2 (Nat.mod_lt _ (by decide)), ih (r / 2) (by omega)]
/-- a word of length d tells p and q apart -/
def dm_df (g : Nat → Nat) (F : Nat → Bool) (p q d : Nat) : Prop := ∃ r, r < 2 ^ d ∧ F (dm_run g p (2 ^ d + r)) ≠ F (dm_run g q (2 ^ d + r))
/-- no word tells them apart -/
def dm_eq (g : Nat → Nat) (F : Nat → Bool) (p q : Nat) : Prop := ∀ d, ¬ dm_df g F p q d
section
variable {g : Nat → Nat} {F : Nat → Bool} {p q r d k n : Nat}
theorem dm_df_0 : dm_df g F p q 0 ↔ F p ≠ F q := by
  constructor
  · rintro ⟨r, hr, h⟩
    have h0 : r = 0 := by simpa using hr
    subst h0
    simpa [dm_run_1] using h
  · intro h
    exact ⟨0, by decide, by simpa [dm_run_1] using h⟩
theorem dm_df_s : dm_df g F p q (d + 1) ↔ ∃ x, x < 2 ∧ dm_df g F (g (2 * p + x)) (g (2 * q + x)) d := by
  have hp : 2 ^ (d + 1) = 2 * 2 ^ d := by rw [Nat.pow_succ, Nat.mul_comm]
  have key : ∀ (p x r : Nat), x < 2 → r < 2 ^ d → dm_run g p (2 ^ (d + 1) + (x * 2 ^ d + r)) = dm_run g (g (2 * p + x)) (2 ^ d + r) := by
    intro p x r hx hr
    have e : 2 ^ (d + 1) + (x * 2 ^ d + r) = (2 * 1 + x) * 2 ^ d + r := by rw [hp, Nat.add_mul]; omega
    rw [e, dm_run_c g p (by omega) d r hr, dm_run_s g p (Nat.le_refl 1) hx, dm_run_1]
  constructor
  · rintro ⟨r, hr, h⟩
    rcases Nat.lt_or_ge r (2 ^ d) with c | c
    · refine ⟨0, by decide, r, c, ?_⟩
      rw [← key p 0 r (by decide) c, ← key q 0 r (by decide) c, Nat.zero_mul, Nat.zero_add]
      exact h
    · refine ⟨1, by decide, r - 2 ^ d, by omega, ?_⟩
      rw [← key p 1 (r - 2 ^ d) (by decide) (by omega), ← key q 1 (r - 2 ^ d) (by decide) (by omega), show 1 * 2 ^ d + (r - 2 ^ d) = r by omega]
      exact h
  · rintro ⟨x, hx, r, hr, h⟩
    refine ⟨x * 2 ^ d + r, ?_, ?_⟩
    · have h1 : x * 2 ^ d ≤ 1 * 2 ^ d := Nat.mul_le_mul_right _ (by omega)
      omega
    · rw [key p x r hx hr, key q x r hx hr]
      exact h
theorem dm_eq_at (h : dm_eq g F p q) {c : Nat} (hc : 1 ≤ c) : F (dm_run g p c) = F (dm_run g q c) := by
  have h1 := Nat.log2_self_le (n := c) (by omega)
  have h2 : c < 2 ^ (c.log2 + 1) := Nat.lt_log2_self
  rw [Nat.pow_succ] at h2
  apply Classical.byContradiction
  intro hne
  refine h c.log2 ⟨c - 2 ^ c.log2, by omega, ?_⟩
  rw [show 2 ^ c.log2 + (c - 2 ^ c.log2) = c by omega]
  exact hne
theorem dm_eq_of (h : ∀ c, 1 ≤ c → F (dm_run g p c) = F (dm_run g q c)) : dm_eq g F p q := fun d ⟨r, _, hne⟩ => hne (h _ (by have := Nat.two_pow_pos d; omega))
theorem dm_eq_rf : dm_eq g F p p := fun _ ⟨_, _, h⟩ => h rfl
theorem dm_eq_sy (h : dm_eq g F p q) : dm_eq g F q p := dm_eq_of (fun _ hc => (dm_eq_at h hc).symm)
theorem dm_eq_tr (h : dm_eq g F p q) (h2 : dm_eq g F q r) : dm_eq g F p r := dm_eq_of (fun _ hc => (dm_eq_at h hc).trans (dm_eq_at h2 hc))
theorem dm_eq_F (h : dm_eq g F p q) : F p = F q := by
  have h1 := dm_eq_at h (Nat.le_refl 1)
  rwa [dm_run_1, dm_run_1] at h1
theorem dm_eq_st (h : dm_eq g F p q) {x : Nat} (hx : x < 2) : dm_eq g F (g (2 * p + x)) (g (2 * q + x)) := fun d hd => h (d + 1) (dm_df_s.mpr ⟨x, hx, hd⟩)
theorem dm_bisim (R : Nat → Nat → Prop) (hF : ∀ p q, R p q → F p = F q) (hs : ∀ p q x, R p q → x < 2 → R (g (2 * p + x)) (g (2 * q + x))) (h : R p q) : dm_eq g F p q := by
  intro d
  induction d generalizing p q with
  | zero => rw [dm_df_0]; exact fun z => z (hF p q h)
  | succ d ih =>
    rw [dm_df_s]
    rintro ⟨x, hx, hd⟩
    exact ih (hs p q x h hx) hd
theorem dm_run_lt (hg : ∀ p x, p < n → x < 2 → g (2 * p + x) < n) (hp : p < n) : ∀ c, 1 ≤ c → dm_run g p c < n := by
  intro c
  induction c using Nat.strongRecOn with
  | _ c ih =>
    intro hc
    by_cases h1 : c = 1
    · rw [h1, dm_run_1]; exact hp
    · rw [show c = 2 * (c / 2) + c % 2 by omega, dm_run_s g p (by omega) (Nat.mod_lt _ (by decide))]
      exact hg _ _ (ih (c / 2) (by omega) (by omega)) (Nat.mod_lt _ (by decide))
end
/-! counting -/
def dm_cnt (P : Nat → Bool) : Nat → Nat
  | 0 => 0
  | n + 1 => dm_cnt P n + (if P n = true then 1 else 0)
noncomputable def dm_b (P : Prop) : Bool := @decide P (Classical.propDecidable P)
theorem dm_b_t {P : Prop} : dm_b P = true ↔ P := by
  unfold dm_b
  exact @decide_eq_true_iff P (Classical.propDecidable P)
theorem dm_b_f {P : Prop} : dm_b P = false ↔ ¬ P := by
  constructor
  · intro h hp
    rw [dm_b_t.mpr hp] at h
    cases h
  · intro h
    cases e : dm_b P with
    | false => rfl
    | true => exact absurd (dm_b_t.mp e) h
theorem dm_b_e {P Q : Prop} (h : P ↔ Q) : dm_b P = dm_b Q := by rw [show P = Q from propext h]
theorem dm_cnt_le (P : Nat → Bool) (n : Nat) : dm_cnt P n ≤ n := by
  induction n with
  | zero => exact Nat.le_refl 0
  | succ n ih =>
    simp only [dm_cnt]
    split <;> omega
theorem dm_cnt_congr {P Q : Nat → Bool} {n : Nat} (h : ∀ p, p < n → P p = Q p) : dm_cnt P n = dm_cnt Q n := by
  induction n with
  | zero => rfl
  | succ n ih => simp only [dm_cnt]; rw [ih (fun p hp => h p (by omega)), h n (by omega)]
theorem dm_cnt_mono {P Q : Nat → Bool} {n : Nat} (h : ∀ p, p < n → P p = true → Q p = true) : dm_cnt P n ≤ dm_cnt Q n := by
  induction n with
  | zero => exact Nat.le_refl 0
  | succ n ih =>
    have h1 := ih (fun p hp => h p (by omega))
    have h2 := h n (by omega)
    simp only [dm_cnt]
    by_cases hp : P n = true
    · rw [if_pos hp, if_pos (h2 hp)]; omega
    · rw [if_neg hp]; omega
theorem dm_cnt_lt {P Q : Nat → Bool} {n k : Nat} (h : ∀ p, p < n → P p = true → Q p = true) (hk : k < n) (hQ : Q k = true) (hP : P k = false) : dm_cnt P n < dm_cnt Q n := by
  induction n with
  | zero => omega
  | succ n ih =>
    have h2 := h n (by omega)
    simp only [dm_cnt]
    by_cases hkn : k = n
    · subst hkn
      have h1 := dm_cnt_mono (P := P) (Q := Q) (n := k) (fun p hp => h p (by omega))
      rw [hP, hQ]
      simp
      omega
    · have h1 := ih (fun p hp => h p (by omega)) (by omega)
      by_cases hp : P n = true
      · rw [if_pos hp, if_pos (h2 hp)]; omega
      · rw [if_neg hp]; omega
theorem dm_cnt_one {P Q : Nat → Bool} {n k : Nat} (hk : k < n) (hQ : ∀ j, j < n → j ≠ k → Q j = P j) (hQk : Q k = true) (hP : P k = false) : dm_cnt Q n = dm_cnt P n + 1 := by
  induction n with
  | zero => omega
  | succ n ih =>
    simp only [dm_cnt]
    by_cases hkn : k = n
    · subst hkn
      rw [dm_cnt_congr (P := Q) (Q := P) (n := k) (fun p hp => hQ p (by omega) (by omega)), hP, hQk]
      simp
    · rw [ih (by omega) (fun j hj hne => hQ j (by omega) hne), hQ n (by omega) (by omega)]
      omega
theorem dm_cnt_0 {P : Nat → Bool} {n : Nat} (h : ∀ p, p < n → P p = false) : dm_cnt P n = 0 := by
  induction n with
  | zero => rfl
  | succ n ih => simp only [dm_cnt]; rw [ih (fun p hp => h p (by omega)), h n (by omega)]; rfl
theorem dm_cnt_all {P : Nat → Bool} {n : Nat} (h : ∀ p, p < n → P p = true) : dm_cnt P n = n := by
  induction n with
  | zero => rfl
  | succ n ih => simp only [dm_cnt]; rw [ih (fun p hp => h p (by omega)), h n (by omega)]; rfl
/-- the values of f on R, counted by their first places -/
theorem dm_img (f : Nat → Nat) (R : Nat → Prop) (K : Nat) : ∀ n, (∀ p, p < n → f p < K) → dm_cnt (fun k => dm_b (∃ p, p < n ∧ R p ∧ f p = k)) K = dm_cnt (fun p => dm_b (R p ∧ ∀ q, q < p → R q → f q ≠ f p)) n := by
  intro n
  induction n with
  | zero =>
    intro _
    refine dm_cnt_0 (fun p _ => dm_b_f.mpr ?_)
    rintro ⟨p, hp, -⟩
    omega
  | succ n ih =>
    intro hf
    have ih' := ih (fun p hp => hf p (by omega))
    rw [show dm_cnt (fun p => dm_b (R p ∧ ∀ q, q < p → R q → f q ≠ f p)) (n + 1) = dm_cnt (fun p => dm_b (R p ∧ ∀ q, q < p → R q → f q ≠ f p)) n + (if dm_b (R n ∧ ∀ q, q < n → R q → f q ≠ f n) = true then 1 else 0) from rfl, ← ih']
    by_cases hn : R n ∧ ∀ q, q < n → R q → f q ≠ f n
    · rw [if_pos (dm_b_t.mpr hn)]
      refine dm_cnt_one (k := f n) (hf n (by omega)) (fun j _ hne => dm_b_e ⟨?_, ?_⟩) (dm_b_t.mpr ⟨n, by omega, hn.1, rfl⟩) (dm_b_f.mpr ?_)
      · rintro ⟨p, hp, hR, e⟩
        by_cases hpn : p = n
        · subst hpn; exact absurd e.symm hne
        · exact ⟨p, by omega, hR, e⟩
      · rintro ⟨p, hp, hR, e⟩
        exact ⟨p, by omega, hR, e⟩
      · rintro ⟨p, hp, hR, e⟩
        exact hn.2 p hp hR e
    · rw [if_neg (fun z => hn (dm_b_t.mp z)), Nat.add_zero]
      refine dm_cnt_congr (fun j _ => dm_b_e ⟨?_, ?_⟩)
      · rintro ⟨p, hp, hR, e⟩
        by_cases hpn : p = n
        · subst hpn
          apply Classical.byContradiction
          intro hno
          exact hn ⟨hR, fun q hq hRq hfe => hno ⟨q, hq, hRq, hfe.trans e⟩⟩
        · exact ⟨p, by omega, hR, e⟩
      · rintro ⟨p, hp, hR, e⟩
        exact ⟨p, by omega, hR, e⟩
/-- so many different values below K: no more than K -/
theorem dm_pig {f : Nat → Nat} {n K : Nat} (h : ∀ p, p < n → f p < K) (inj : ∀ p q, p < n → q < n → f p = f q → p = q) : n ≤ K := by
  have h1 := dm_img f (fun _ => True) K n h
  rw [dm_cnt_all (P := fun p => dm_b (True ∧ ∀ q, q < p → True → f q ≠ f p)) (fun p hp => dm_b_t.mpr ⟨trivial, fun q hq _ e => absurd (inj q p (by omega) hp e) (by omega)⟩)] at h1
  rw [← h1]
  exact dm_cnt_le _ _
/-! Moore's bound: states that can be told apart are told apart by a word shorter than their number -/
def dm_E (g : Nat → Nat) (F : Nat → Bool) (k p q : Nat) : Prop := ∀ d, d < k → ¬ dm_df g F p q d
section
variable {g : Nat → Nat} {F : Nat → Bool} {p q r d k n : Nat}
theorem dm_df_sy (h : dm_df g F p q d) : dm_df g F q p d := by
  obtain ⟨r, hr, h⟩ := h
  exact ⟨r, hr, fun z => h z.symm⟩
theorem dm_E_sy (h : dm_E g F k p q) : dm_E g F k q p := fun d hd z => h d hd (dm_df_sy z)
theorem dm_E_tr (h : dm_E g F k p q) (h2 : dm_E g F k q r) : dm_E g F k p r := by
  rintro d hd ⟨x, hx, hne⟩
  apply h d hd
  refine ⟨x, hx, fun e1 => ?_⟩
  apply h2 d hd
  exact ⟨x, hx, fun e2 => hne (e1.trans e2)⟩
theorem dm_E_rf : dm_E g F k p p := fun _ _ ⟨_, _, h⟩ => h rfl
theorem dm_E_le (h : dm_E g F (k + 1) p q) : dm_E g F k p q := fun d hd => h d (by omega)
theorem dm_E_s : dm_E g F (k + 1) p q ↔ F p = F q ∧ ∀ x, x < 2 → dm_E g F k (g (2 * p + x)) (g (2 * q + x)) := by
  constructor
  · intro h
    refine ⟨Classical.byContradiction fun z => h 0 (by omega) (dm_df_0.mpr z), fun x hx d hd z => h (d + 1) (by omega) (dm_df_s.mpr ⟨x, hx, z⟩)⟩
  · rintro ⟨h1, h2⟩ d hd
    cases d with
    | zero => rw [dm_df_0]; exact fun z => z h1
    | succ d =>
      rw [dm_df_s]
      rintro ⟨x, hx, z⟩
      exact h2 x hx d (by omega) z
theorem dm_cls (hp : p < n) (hq : q < n) (h : dm_E g F k p q) (h2 : ¬ dm_E g F (k + 1) p q) : dm_cnt (fun x => dm_b (∀ y, y < x → ¬ dm_E g F k x y)) n < dm_cnt (fun x => dm_b (∀ y, y < x → ¬ dm_E g F (k + 1) x y)) n := by
  obtain ⟨a, ha, ha2⟩ := pk_least (fun j => dm_E g F (k + 1) p j) ⟨p, dm_E_rf⟩
  obtain ⟨b, hb, hb2⟩ := pk_least (fun j => dm_E g F (k + 1) q j) ⟨q, dm_E_rf⟩
  have hap : a ≤ p := Nat.not_lt.mp fun z => ha2 p z dm_E_rf
  have hbq : b ≤ q := Nat.not_lt.mp fun z => hb2 q z dm_E_rf
  have hab : dm_E g F k a b := dm_E_tr (dm_E_sy (dm_E_le ha)) (dm_E_tr h (dm_E_le hb))
  have hra : dm_b (∀ y, y < a → ¬ dm_E g F (k + 1) a y) = true := dm_b_t.mpr fun y hy z => ha2 y hy (dm_E_tr ha z)
  have hrb : dm_b (∀ y, y < b → ¬ dm_E g F (k + 1) b y) = true := dm_b_t.mpr fun y hy z => hb2 y hy (dm_E_tr hb z)
  have hmono : ∀ x, x < n → dm_b (∀ y, y < x → ¬ dm_E g F k x y) = true → dm_b (∀ y, y < x → ¬ dm_E g F (k + 1) x y) = true := fun x _ z => dm_b_t.mpr fun y hy w => dm_b_t.mp z y hy (dm_E_le w)
  rcases Nat.lt_trichotomy a b with c | c | c
  · exact dm_cnt_lt hmono (k := b) (by omega) hrb (dm_b_f.mpr fun z => z a c (dm_E_sy hab))
  · subst c
    exact absurd (dm_E_tr ha (dm_E_sy hb)) h2
  · exact dm_cnt_lt hmono (k := a) (by omega) hra (dm_b_f.mpr fun z => z b c hab)
theorem dm_moore (hg : ∀ p x, p < n → x < 2 → g (2 * p + x) < n) (hp : p < n) (hq : q < n) (h : dm_df g F p q d) : ∃ d', d' < n ∧ dm_df g F p q d' := by
  have hex : ∃ k, k ≤ n ∧ ∀ x y, x < n → y < n → dm_E g F k x y → dm_E g F (k + 1) x y := by
    apply Classical.byContradiction
    intro hno
    have hk : ∀ k, k ≤ n + 1 → k ≤ dm_cnt (fun x => dm_b (∀ y, y < x → ¬ dm_E g F k x y)) n := by
      intro k
      induction k with
      | zero => intro _; exact Nat.zero_le _
      | succ k ih =>
        intro hk
        have h1 := ih (by omega)
        have h2 : ∃ x y, x < n ∧ y < n ∧ dm_E g F k x y ∧ ¬ dm_E g F (k + 1) x y := by
          apply Classical.byContradiction
          intro hz
          exact hno ⟨k, by omega, fun x y hx hy hE => Classical.byContradiction fun hw => hz ⟨x, y, hx, hy, hE, hw⟩⟩
        obtain ⟨x, y, hx, hy, hE, hE2⟩ := h2
        have h3 := dm_cls hx hy hE hE2
        omega
    have h1 := hk (n + 1) (Nat.le_refl _)
    have h2 := dm_cnt_le (fun x => dm_b (∀ y, y < x → ¬ dm_E g F (n + 1) x y)) n
    omega
  obtain ⟨k, hkn, hst⟩ := hex
  have hall : ∀ j x y, x < n → y < n → dm_E g F (k + j) x y → dm_E g F (k + j + 1) x y := by
    intro j
    induction j with
    | zero => exact hst
    | succ j ih =>
      intro x y hx hy hE
      have hE' := dm_E_s.mp hE
      refine dm_E_s.mpr ⟨hE'.1, fun z hz => ih _ _ (hg x z hx hz) (hg y z hy hz) (hE'.2 z hz)⟩
  have hall2 : ∀ j, dm_E g F k p q → dm_E g F (k + j) p q := by
    intro j hE
    induction j with
    | zero => exact hE
    | succ j ih => exact hall j p q hp hq ih
  by_cases hE : dm_E g F k p q
  · exact absurd h (hall2 (d + 1) hE d (by omega))
  · apply Classical.byContradiction
    intro hno
    exact hE fun d' hd' z => hno ⟨d', by omega, z⟩
end
end
section
theorem sd_same {α : Type} {l : List α} {i : Nat} {x : α} (h : l[i]? = some x) : l.set i x = l := by
  obtain ⟨hi, rfl⟩ := List.getElem?_eq_some_iff.mp h
  exact List.set_getElem_self hi
/-- places below N of cell c set to v -/
def sd_fill (S : Nat → Nat → Nat) (c N v : Nat) : Nat → Nat → Nat := fun c' => if c' = c then (fun j => if j < N then v else S c' j) else S c'
/-- Integer.bitCount's sum -/
def sd_bc1 (v : Nat) : Nat := v - (v / 2 ^ 1 &&& 1431655765)
def sd_bc2 (v : Nat) : Nat := (v &&& 858993459) + (v / 2 ^ 2 &&& 858993459)
def sd_bc3 (v : Nat) : Nat := v + v / 2 ^ 4 &&& 252645135
def sd_bc (v : Nat) : Nat := (sd_bc3 (sd_bc2 (sd_bc1 v)) + sd_bc3 (sd_bc2 (sd_bc1 v)) / 2 ^ 8) + (sd_bc3 (sd_bc2 (sd_bc1 v)) + sd_bc3 (sd_bc2 (sd_bc1 v)) / 2 ^ 8) / 2 ^ 16 &&& 63
def sd_pc (v : Nat) : Nat := dm_cnt (fun i => v.testBit i) 16
/-! bitCount, byte by byte -/
theorem dm_cnt_app (P : Nat → Bool) (m n : Nat) : dm_cnt P (m + n) = dm_cnt P m + dm_cnt (fun i => P (m + i)) n := by
  induction n with
  | zero => rfl
  | succ n ih =>
    show dm_cnt P (m + n) + (if P (m + n) = true then 1 else 0) = dm_cnt P m + (dm_cnt (fun i => P (m + i)) n + (if P (m + n) = true then 1 else 0))
    rw [ih]; omega
theorem sd_and_by (a b c d : Nat) (hb : b < 256) (hd : d < 256) : (256 * a + b) &&& (256 * c + d) = 256 * (a &&& c) + (b &&& d) := by
  apply Nat.eq_of_testBit_eq
  intro i
  have hbd : (b &&& d) < 2 ^ 8 := Nat.lt_of_le_of_lt Nat.and_le_left hb
  rw [Nat.testBit_and, show 256 = 2 ^ 8 from rfl, Nat.testBit_two_pow_mul_add _ hb, Nat.testBit_two_pow_mul_add _ hd, Nat.testBit_two_pow_mul_add _ hbd]
  split <;> rw [Nat.testBit_and]
def sd_t1 (x : Nat) : Nat := x - (x / 2 &&& 85)
def sd_t2 (x : Nat) : Nat := (x &&& 51) + (x / 4 &&& 51)
def sd_t3 (x : Nat) : Nat := (x + x / 16) % 16
theorem sd_k1 : ∀ a, a < 256 → (a / 2 &&& 5592405) = (a / 2 &&& 85) := by decide +kernel
theorem sd_k2 : ∀ e, e < 2 → ∀ y, y < 128 → ((128 * e + y) &&& 85) = (y &&& 85) := by decide +kernel
theorem sd_k3 : ∀ a, a < 256 → (a &&& 3355443) = (a &&& 51) := by decide +kernel
theorem sd_k4 : ∀ e, e < 4 → ∀ y, y < 64 → ((64 * e + y) &&& 51) = (y &&& 51) := by decide +kernel
theorem sd_k5 : ∀ a, a < 69 → ((a + a / 16) &&& 986895) = sd_t3 a := by decide +kernel
theorem sd_k6 : ∀ x, x < 256 → sd_t2 (sd_t1 x) < 69 ∧ sd_t2 (sd_t1 x) % 16 ≤ 4 := by decide +kernel
theorem sd_k7 : ∀ x, x < 256 → sd_t3 (sd_t2 (sd_t1 x)) = dm_cnt (fun i => x.testBit i) 8 := by decide +kernel
theorem sd_b1 {a b : Nat} (ha : a < 256) (hb : b < 256) : sd_bc1 (256 * a + b) = 256 * sd_t1 a + sd_t1 b := by
  have e1 : (256 * a + b) / 2 ^ 1 = 256 * (a / 2) + (128 * (a % 2) + b / 2) := by omega
  have z1 : (a / 2 &&& 85) ≤ a / 2 := Nat.and_le_left
  have z2 : (b / 2 &&& 85) ≤ b / 2 := Nat.and_le_left
  unfold sd_bc1 sd_t1
  rw [e1, show 1431655765 = 256 * 5592405 + 85 from rfl, sd_and_by _ _ _ _ (by omega) (by decide), sd_k1 a ha, sd_k2 _ (by omega) _ (by omega)]
  omega
theorem sd_b2 {a b : Nat} (ha : a < 256) (hb : b < 256) : sd_bc2 (256 * a + b) = 256 * sd_t2 a + sd_t2 b := by
  have e1 : (256 * a + b) / 2 ^ 2 = 256 * (a / 4) + (64 * (a % 4) + b / 4) := by omega
  unfold sd_bc2 sd_t2
  rw [e1, show 858993459 = 256 * 3355443 + 51 from rfl, sd_and_by _ _ _ _ hb (by decide), sd_and_by _ _ _ _ (by omega) (by decide), sd_k3 a ha, sd_k3 (a / 4) (by omega), sd_k4 _ (by omega) _ (by omega)]
  omega
theorem sd_b3 {a b : Nat} (ha : a < 69) (ha2 : a % 16 ≤ 4) (hb : b < 69) : sd_bc3 (256 * a + b) = 256 * sd_t3 a + sd_t3 b := by
  have e1 : 256 * a + b + (256 * a + b) / 2 ^ 4 = 256 * (a + a / 16) + (b + b / 16 + 16 * (a % 16)) := by omega
  unfold sd_bc3
  rw [e1, show 252645135 = 256 * 986895 + 15 from rfl, sd_and_by _ _ _ _ (by omega) (by decide), sd_k5 a ha, show 15 = 2 ^ 4 - 1 from rfl, Nat.and_two_pow_sub_one_eq_mod]
  unfold sd_t3
  omega
theorem sd_bc_pc {v : Nat} (hv : v < 65536) : sd_bc v = sd_pc v := by
  obtain ⟨a, b, ha, hb, rfl⟩ : ∃ a b, a < 256 ∧ b < 256 ∧ v = 256 * a + b := ⟨v / 256, v % 256, by omega, by omega, by omega⟩
  have y1 : sd_t1 a < 256 := Nat.lt_of_le_of_lt (Nat.sub_le _ _) ha
  have y2 : sd_t1 b < 256 := Nat.lt_of_le_of_lt (Nat.sub_le _ _) hb
  have l1 : sd_t3 (sd_t2 (sd_t1 a)) < 16 := Nat.mod_lt _ (by decide)
  have l2 : sd_t3 (sd_t2 (sd_t1 b)) < 16 := Nat.mod_lt _ (by decide)
  unfold sd_bc
  rw [sd_b1 ha hb, sd_b2 y1 y2, sd_b3 (sd_k6 a ha).1 (sd_k6 a ha).2 (sd_k6 b hb).1, show (63 : Nat) = 2 ^ 6 - 1 from rfl, Nat.and_two_pow_sub_one_eq_mod]
  have e2 : sd_pc (256 * a + b) = dm_cnt (fun i => b.testBit i) 8 + dm_cnt (fun i => a.testBit i) 8 := by
    unfold sd_pc
    rw [show 16 = 8 + 8 from rfl, dm_cnt_app]
    congr 1
    · refine dm_cnt_congr (fun p hp => ?_)
      rw [show 256 = 2 ^ 8 from rfl, Nat.testBit_two_pow_mul_add _ hb, if_pos hp]
    · refine dm_cnt_congr (fun p hp => ?_)
      rw [show 256 = 2 ^ 8 from rfl, Nat.testBit_two_pow_mul_add _ hb, if_neg (by omega), show 8 + p - 8 = p by omega]
  rw [e2, ← sd_k7 a ha, ← sd_k7 b hb]
  generalize sd_t3 (sd_t2 (sd_t1 a)) = x at *
  generalize sd_t3 (sd_t2 (sd_t1 b)) = y at *
  have q1 : (256 * x + y) / 2 ^ 8 = x := by omega
  have q2 : (256 * x + y + x) / 2 ^ 16 = 0 := by omega
  rw [q1, q2]
  omega

set_option maxHeartbeats 4000000 in
set_option maxRecDepth 100000 in
/-- Arrays.fill -/
theorem m_J0_fill (l : Launch) (D : va_G) (d : Nat → ClassId) {ws : va_W} (q0 : Nat) {a N : Nat} {f : Nat → Nat} {v : Nat} (ha : ws[q0]? = some (a, .inl (d 0, N, .inl (fun j => nI (f j))))) (hN : N < 2 ^ 31) (sz : Nat) : Met l yJ0_fill (ws_ yJ0_fill cJ0_fill 4 none) (sd_rm 0) (va_Pc [.ref a, .int (nI v)] (sd_P D d (ws) sz)) (sd_Qv D (fun _ : Unit => True) (fun _ => ws.set q0 (a, .inl (d 0, N, .inl (fun j => nI (if j < N then v else f j))))) (va_A (ws) sz)) 0 0 (va_A (ws) sz) := by
  refine sd_ofW (Qc := sd_Qv D (fun _ : Unit => True) (fun _ => ws.set q0 (a, .inl (d 0, N, .inl (fun j => nI (if j < N then v else f j)))))) (own := RJ0) (by decide) rfl (Nat.le_of_ble_eq_true rfl) ?_
  intro p e s m below meth c ls A E hr hlk hnm hA hW hl
  have hX_ := E.1.1
  have hB_ := E.1.2.1
  have hown := E.1.2.2.2.1
  have hts := E.1.2.2.2.2
  have hl : lv_has ls 4 [(0, .ref a), (1, .int (nI v))] := hl
  refine lv_iconst (v := nI 0) hX_ hB_ dJ0_fill_0 (by decide) ?_
  refine lv_istore_n (lv' := [(2, .int (nI 0)), (0, .ref a), (1, .int (nI v))]) hX_ hB_ dJ0_fill_1 rfl hl (by decide) rfl (fun ls hl => ?_)
  refine lv_aload_n hX_ hB_ dJ0_fill_2 rfl (lv_at hl 1 rfl) ?_
  refine va_alen (v := nI N) hX_ hB_ E.2 hW.1 q0 0 ha rfl rfl dJ0_fill_3 ?_
  refine lv_istore_n (lv' := [(3, .int (nI N)), (2, .int (nI 0)), (0, .ref a), (1, .int (nI v))]) hX_ hB_ dJ0_fill_4 rfl hl (by decide) rfl (fun ls hl => ?_)
  have hq : q0 < ws.length := (List.getElem?_eq_some_iff.mp ha).1
  refine sd_loop (fun n (i : Nat) H locs ls => n = N - i ∧ i ≤ N ∧ sd_W D A s.heap (ws.set q0 (a, .inl (d 0, N, .inl (fun j => nI (if j < i then v else f j))))) H locs ∧ lv_has ls 4 [(0, .ref a), (1, .int (nI v)), (2, .int (nI i)), (3, .int (nI N))]) (fun n i H locs ls hI ih => ?_) _ 0 _ _ _ ⟨rfl, Nat.zero_le _, ?_, lv_sub hl [2, 3, 1, 0] rfl⟩
  · skip
    obtain ⟨rfl, hi, hW, hl⟩ := hI
    refine lv_iload_n hX_ hB_ dJ0_fill_5 rfl (lv_at hl 2 rfl) ?_
    refine lv_iload_n hX_ hB_ dJ0_fill_6 rfl (lv_at hl 3 rfl) ?_
    refine sd_icmp_ge (tgt := 20) hX_ hB_ dJ0_fill_7 (by decide) (by omega) (by omega) (fun c1 => ?_) (fun c1 => ?_)
    · skip
      have e : i = N := by omega
      subst e
      exact sd_vret E hr hlk () hW trivial dJ0_fill_20
    · skip
      refine lv_aload_n hX_ hB_ dJ0_fill_10 rfl (lv_at hl 0 rfl) ?_
      refine lv_iload_n hX_ hB_ dJ0_fill_11 rfl (lv_at hl 2 rfl) ?_
      refine lv_iload_n hX_ hB_ dJ0_fill_12 rfl (lv_at hl 1 rfl) ?_
      refine sd_ast (f := fun j => if j < i then v else f j) E hW q0 (List.getElem?_set_self hq) c1 hN dJ0_fill_13 (fun H locs hW => ?_)
      rw [List.set_set, show (fun i_1 => nI (if i_1 = i then v else if i_1 < i then v else f i_1)) = (fun j => nI (if j < i + 1 then v else f j)) from funext fun j => ?_] at hW
      · skip
        refine sd_iinc (lv' := [(2, .int (nI (i + 1))), (0, .ref a), (1, .int (nI v)), (3, .int (nI N))]) hX_ hB_ dJ0_fill_14 hl (k := 2) rfl (by decide) rfl (fun ls hl => ?_)
        refine lv_goto (tgt := 5) hX_ hB_ dJ0_fill_17 (by decide) ?_
        exact ih (N - (i + 1)) (i + 1) H locs ls (by omega) ⟨rfl, by omega, hW, lv_sub hl [1, 2, 0, 3] rfl⟩
      · skip
        rcases Nat.lt_trichotomy j i with z | z | z
        · rw [if_neg (by omega), if_pos z, if_pos (by omega)]
        · rw [if_pos z, if_pos (by omega)]
        · rw [if_neg (by omega), if_neg (by omega), if_neg (by omega)]
  · skip
    rw [sd_same]
    · exact hW
    · rw [ha]; simp

set_option maxHeartbeats 4000000 in
set_option maxRecDepth 100000 in
/-- Arrays.fill -/
theorem m_J0_fill_2 (l : Launch) (D : va_G) (d : Nat → ClassId) {ws : va_W} (q0 : Nat) {a N : Nat} {f : Nat → Nat} {v : Nat} (ha : ws[q0]? = some (a, .inl (d 1, N, .inl (fun j => nI (f j))))) (hN : N < 2 ^ 31) (hv : v < 2) (sz : Nat) : Met l yJ0_fill_2 (ws_ yJ0_fill_2 cJ0_fill_2 4 none) (sd_rm 0) (va_Pc [.ref a, .int (nI v)] (sd_P D d (ws) sz)) (sd_Qv D (fun _ : Unit => True) (fun _ => ws.set q0 (a, .inl (d 1, N, .inl (fun j => nI (if j < N then v else f j))))) (va_A (ws) sz)) 0 0 (va_A (ws) sz) := by
  refine sd_ofW (Qc := sd_Qv D (fun _ : Unit => True) (fun _ => ws.set q0 (a, .inl (d 1, N, .inl (fun j => nI (if j < N then v else f j)))))) (own := RJ0) (by decide) rfl (Nat.le_of_ble_eq_true rfl) ?_
  intro p e s m below meth c ls A E hr hlk hnm hA hW hl
  have hX_ := E.1.1
  have hB_ := E.1.2.1
  have hown := E.1.2.2.2.1
  have hts := E.1.2.2.2.2
  have hl : lv_has ls 4 [(0, .ref a), (1, .int (nI v))] := hl
  refine lv_iconst (v := nI 0) hX_ hB_ dJ0_fill_2_0 (by decide) ?_
  refine lv_istore_n (lv' := [(2, .int (nI 0)), (0, .ref a), (1, .int (nI v))]) hX_ hB_ dJ0_fill_2_1 rfl hl (by decide) rfl (fun ls hl => ?_)
  refine lv_aload_n hX_ hB_ dJ0_fill_2_2 rfl (lv_at hl 1 rfl) ?_
  refine va_alen (v := nI N) hX_ hB_ E.2 hW.1 q0 1 ha rfl rfl dJ0_fill_2_3 ?_
  refine lv_istore_n (lv' := [(3, .int (nI N)), (2, .int (nI 0)), (0, .ref a), (1, .int (nI v))]) hX_ hB_ dJ0_fill_2_4 rfl hl (by decide) rfl (fun ls hl => ?_)
  have hq : q0 < ws.length := (List.getElem?_eq_some_iff.mp ha).1
  refine sd_loop (fun n (i : Nat) H locs ls => n = N - i ∧ i ≤ N ∧ sd_W D A s.heap (ws.set q0 (a, .inl (d 1, N, .inl (fun j => nI (if j < i then v else f j))))) H locs ∧ lv_has ls 4 [(0, .ref a), (1, .int (nI v)), (2, .int (nI i)), (3, .int (nI N))]) (fun n i H locs ls hI ih => ?_) _ 0 _ _ _ ⟨rfl, Nat.zero_le _, ?_, lv_sub hl [2, 3, 1, 0] rfl⟩
  · skip
    obtain ⟨rfl, hi, hW, hl⟩ := hI
    refine lv_iload_n hX_ hB_ dJ0_fill_2_5 rfl (lv_at hl 2 rfl) ?_
    refine lv_iload_n hX_ hB_ dJ0_fill_2_6 rfl (lv_at hl 3 rfl) ?_
    refine sd_icmp_ge (tgt := 20) hX_ hB_ dJ0_fill_2_7 (by decide) (by omega) (by omega) (fun c1 => ?_) (fun c1 => ?_)
    · skip
      have e : i = N := by omega
      subst e
      exact sd_vret E hr hlk () hW trivial dJ0_fill_2_20
    · skip
      refine lv_aload_n hX_ hB_ dJ0_fill_2_10 rfl (lv_at hl 0 rfl) ?_
      refine lv_iload_n hX_ hB_ dJ0_fill_2_11 rfl (lv_at hl 2 rfl) ?_
      refine lv_iload_n hX_ hB_ dJ0_fill_2_12 rfl (lv_at hl 1 rfl) ?_
      refine sd_zast (f := fun j => if j < i then v else f j) E hW q0 (List.getElem?_set_self hq) hv c1 hN dJ0_fill_2_13 (fun H locs hW => ?_)
      rw [List.set_set, show (fun i_1 => nI (if i_1 = i then v else if i_1 < i then v else f i_1)) = (fun j => nI (if j < i + 1 then v else f j)) from funext fun j => ?_] at hW
      · skip
        refine sd_iinc (lv' := [(2, .int (nI (i + 1))), (0, .ref a), (1, .int (nI v)), (3, .int (nI N))]) hX_ hB_ dJ0_fill_2_14 hl (k := 2) rfl (by decide) rfl (fun ls hl => ?_)
        refine lv_goto (tgt := 5) hX_ hB_ dJ0_fill_2_17 (by decide) ?_
        exact ih (N - (i + 1)) (i + 1) H locs ls (by omega) ⟨rfl, by omega, hW, lv_sub hl [1, 2, 0, 3] rfl⟩
      · skip
        rcases Nat.lt_trichotomy j i with z | z | z
        · rw [if_neg (by omega), if_pos z, if_pos (by omega)]
        · rw [if_pos z, if_pos (by omega)]
        · rw [if_neg (by omega), if_neg (by omega), if_neg (by omega)]
  · skip
    rw [sd_same]
    · exact hW
    · rw [ha]; simp

set_option maxHeartbeats 4000000 in
set_option maxRecDepth 100000 in
/-- Integer.bitCount -/
theorem m_bitCount (l : Launch) (D : va_G) (d : Nat → ClassId) (ws : va_W) {v : Nat} (hv : v < 65536) (sz : Nat) : Met l yJ1_bitCount (ws_ yJ1_bitCount cJ1_bitCount 1 (some .int)) (sd_rm 0) (va_Pc [.int (nI v)] (sd_P D d (ws) sz)) (sd_Qi D (fun (r : Int32) (_ : Unit) => r = nI (sd_pc v)) (fun _ => ws) (va_A (ws) sz)) 0 0 (va_A (ws) sz) := by
  refine sd_ofW (Qc := sd_Qi D (fun (r : Int32) (_ : Unit) => r = nI (sd_pc v)) (fun _ => ws)) (own := RJ1) (by decide) rfl (Nat.le_of_ble_eq_true rfl) ?_
  intro p e s m below meth c ls A E hr hlk hnm hA hW hl
  have hX_ := E.1.1
  have hB_ := E.1.2.1
  have hown := E.1.2.2.2.1
  have hts := E.1.2.2.2.2
  have hl : lv_has ls 1 [(0, .int (nI v))] := hl
  have k1 : v - (v / 2 ^ 1 &&& 1431655765) ≤ v := Nat.sub_le _ _
  refine lv_iload_n hX_ hB_ dJ1_bitCount_0 rfl (lv_at hl 0 rfl) ?_
  refine lv_iload_n hX_ hB_ dJ1_bitCount_1 rfl (lv_at hl 0 rfl) ?_
  refine lv_iconst (v := nI 1) hX_ hB_ dJ1_bitCount_2 (by decide) ?_
  refine sd_iushr hX_ hB_ dJ1_bitCount_3 (by omega) (by decide) ?_
  refine lv_ldcw (v := nI 1431655765) hX_ hB_ hown (hts _ q113) dJ1_bitCount_4 ?_
  refine sd_iand hX_ hB_ dJ1_bitCount_7 ?_
  refine sd_isub hX_ hB_ dJ1_bitCount_8 (Nat.le_trans Nat.and_le_left (Nat.div_le_self _ _)) ?_
  refine lv_istore_n (lv' := [(0, .int (nI (v - ((v / 2 ^ 1) &&& 1431655765))))]) hX_ hB_ dJ1_bitCount_9 rfl hl (by decide) rfl (fun ls hl => ?_)
  obtain ⟨a1, e1⟩ : ∃ a1, a1 = sd_bc1 v := ⟨_, rfl⟩
  have hl : lv_has ls 1 [(0, .int (nI a1))] := by rw [e1]; exact hl
  have k2 : a1 < 65536 := by rw [e1]; exact Nat.lt_of_le_of_lt k1 hv
  refine lv_iload_n hX_ hB_ dJ1_bitCount_10 rfl (lv_at hl 0 rfl) ?_
  refine lv_ldcw (v := nI 858993459) hX_ hB_ hown (hts _ q114) dJ1_bitCount_11 ?_
  refine sd_iand hX_ hB_ dJ1_bitCount_14 ?_
  refine lv_iload_n hX_ hB_ dJ1_bitCount_15 rfl (lv_at hl 0 rfl) ?_
  refine lv_iconst (v := nI 2) hX_ hB_ dJ1_bitCount_16 (by decide) ?_
  refine sd_iushr hX_ hB_ dJ1_bitCount_17 (by omega) (by decide) ?_
  refine lv_ldcw (v := nI 858993459) hX_ hB_ hown (hts _ q114) dJ1_bitCount_18 ?_
  refine sd_iand hX_ hB_ dJ1_bitCount_21 ?_
  refine sd_iadd hX_ hB_ dJ1_bitCount_22 ?_
  refine lv_istore_n (lv' := [(0, .int (nI ((a1 &&& 858993459) + ((a1 / 2 ^ 2) &&& 858993459))))]) hX_ hB_ dJ1_bitCount_23 rfl hl (by decide) rfl (fun ls hl => ?_)
  obtain ⟨a2, e2⟩ : ∃ a2, a2 = sd_bc2 a1 := ⟨_, rfl⟩
  have hl : lv_has ls 1 [(0, .int (nI a2))] := by rw [e2]; exact hl
  have k3 : a2 < 200000 := by have z1 := Nat.and_le_left (n := a1) (m := 858993459); have z2 := Nat.and_le_left (n := a1 / 2 ^ 2) (m := 858993459); rw [e2]; unfold sd_bc2; omega
  refine lv_iload_n hX_ hB_ dJ1_bitCount_24 rfl (lv_at hl 0 rfl) ?_
  refine lv_iload_n hX_ hB_ dJ1_bitCount_25 rfl (lv_at hl 0 rfl) ?_
  refine lv_iconst (v := nI 4) hX_ hB_ dJ1_bitCount_26 (by decide) ?_
  refine sd_iushr hX_ hB_ dJ1_bitCount_27 (by omega) (by decide) ?_
  refine sd_iadd hX_ hB_ dJ1_bitCount_28 ?_
  refine lv_ldcw (v := nI 252645135) hX_ hB_ hown (hts _ q115) dJ1_bitCount_29 ?_
  refine sd_iand hX_ hB_ dJ1_bitCount_32 ?_
  refine lv_istore_n (lv' := [(0, .int (nI ((a2 + (a2 / 2 ^ 4)) &&& 252645135)))]) hX_ hB_ dJ1_bitCount_33 rfl hl (by decide) rfl (fun ls hl => ?_)
  obtain ⟨a3, e3⟩ : ∃ a3, a3 = sd_bc3 a2 := ⟨_, rfl⟩
  have hl : lv_has ls 1 [(0, .int (nI a3))] := by rw [e3]; exact hl
  have k4 : a3 < 400000 := by have z1 := Nat.and_le_left (n := a2 + a2 / 2 ^ 4) (m := 252645135); rw [e3]; unfold sd_bc3; omega
  refine lv_iload_n hX_ hB_ dJ1_bitCount_34 rfl (lv_at hl 0 rfl) ?_
  refine lv_iload_n hX_ hB_ dJ1_bitCount_35 rfl (lv_at hl 0 rfl) ?_
  refine lv_bipush (v := nI 8) hX_ hB_ dJ1_bitCount_36 (by decide) ?_
  refine sd_iushr hX_ hB_ dJ1_bitCount_38 (by omega) (by decide) ?_
  refine sd_iadd hX_ hB_ dJ1_bitCount_39 ?_
  refine lv_istore_n (lv' := [(0, .int (nI (a3 + (a3 / 2 ^ 8))))]) hX_ hB_ dJ1_bitCount_40 rfl hl (by decide) rfl (fun ls hl => ?_)
  refine lv_iload_n hX_ hB_ dJ1_bitCount_41 rfl (lv_at hl 0 rfl) ?_
  refine lv_iload_n hX_ hB_ dJ1_bitCount_42 rfl (lv_at hl 0 rfl) ?_
  refine lv_bipush (v := nI 16) hX_ hB_ dJ1_bitCount_43 (by decide) ?_
  refine sd_iushr hX_ hB_ dJ1_bitCount_45 (by omega) (by decide) ?_
  refine sd_iadd hX_ hB_ dJ1_bitCount_46 ?_
  refine lv_istore_n (lv' := [(0, .int (nI ((a3 + (a3 / 2 ^ 8)) + ((a3 + (a3 / 2 ^ 8)) / 2 ^ 16))))]) hX_ hB_ dJ1_bitCount_47 rfl hl (by decide) rfl (fun ls hl => ?_)
  refine lv_iload_n hX_ hB_ dJ1_bitCount_48 rfl (lv_at hl 0 rfl) ?_
  refine lv_bipush (v := nI 63) hX_ hB_ dJ1_bitCount_49 (by decide) ?_
  refine sd_iand hX_ hB_ dJ1_bitCount_51 ?_
  refine sd_iret E hr hlk () hW ?_ dJ1_bitCount_52
  rw [← sd_bc_pc hv]
  unfold sd_bc
  rw [← e1, ← e2, ← e3]

set_option maxHeartbeats 4000000 in
set_option maxRecDepth 100000 in
/-- the state that a number names -/
theorem m_state (l : Launch) (D : va_G) (d : Nat → ClassId) (h : Nat → Nat) (S : Nat → Nat → Nat) {v : Nat} (h1 : 1 ≤ S 0 0) (h2 : S 0 0 ≤ 16) (sz : Nat) : Met l yX0_state (ws_ yX0_state cX0_state 2 (some .int)) (sd_rm 0) (va_Pc [.ref (h 0), .int (nI v)] (sd_P D d (sd_wX h d S) sz)) (sd_Qi D (fun (r : Int32) (_ : Unit) => r = nI (v % 2147483648 % S 0 0)) (fun _ => sd_wX h d S) (va_A (sd_wX h d S) sz)) 0 0 (va_A (sd_wX h d S) sz) := by
  refine sd_ofW (Qc := sd_Qi D (fun (r : Int32) (_ : Unit) => r = nI (v % 2147483648 % S 0 0)) (fun _ => sd_wX h d S)) (own := RX0) (by decide) rfl (Nat.le_of_ble_eq_true rfl) ?_
  intro p e s m below meth c ls A E hr hlk hnm hA hW hl
  have hX_ := E.1.1
  have hB_ := E.1.2.1
  have hown := E.1.2.2.2.1
  have hts := E.1.2.2.2.2
  have hl : lv_has ls 2 [(0, .ref (h 0)), (1, .int (nI v))] := hl
  refine lv_iload_n hX_ hB_ dX0_state_0 rfl (lv_at hl 1 rfl) ?_
  refine lv_ldc (v := nI 2147483647) hX_ hB_ hown (hts _ q97) dX0_state_1 ?_
  refine sd_iandE (sd_andM _) hX_ hB_ dX0_state_3 ?_
  refine lv_aload_n hX_ hB_ dX0_state_4 rfl (lv_at hl 0 rfl) ?_
  refine sd_getX E hW 0 (v := .int (nI (S 0 0))) (by decide) rfl q27 dX0_state_5 ?_
  refine sd_irem hX_ hB_ dX0_state_8 (by omega) (by omega) (by omega) ?_
  exact sd_iret E hr hlk () hW rfl dX0_state_9

set_option maxHeartbeats 4000000 in
set_option maxRecDepth 100000 in
/-- the state that a number names -/
theorem m_at (l : Launch) (D : va_G) (d : Nat → ClassId) (h : Nat → Nat) (S : Nat → Nat → Nat) {v : Nat} (h1 : 1 ≤ S 0 2) (h2 : S 0 2 ≤ 16) (sz : Nat) : Met l yX1_at (ws_ yX1_at cX1_at 2 (some .int)) (sd_rm 0) (va_Pc [.ref (h 0), .int (nI v)] (sd_P D d (sd_wM h d S) sz)) (sd_Qi D (fun (r : Int32) (_ : Unit) => r = nI (v % 2147483648 % S 0 2)) (fun _ => sd_wM h d S) (va_A (sd_wM h d S) sz)) 0 0 (va_A (sd_wM h d S) sz) := by
  refine sd_ofW (Qc := sd_Qi D (fun (r : Int32) (_ : Unit) => r = nI (v % 2147483648 % S 0 2)) (fun _ => sd_wM h d S)) (own := RX1) (by decide) rfl (Nat.le_of_ble_eq_true rfl) ?_
  intro p e s m below meth c ls A E hr hlk hnm hA hW hl
  have hX_ := E.1.1
  have hB_ := E.1.2.1
  have hown := E.1.2.2.2.1
  have hts := E.1.2.2.2.2
  have hl : lv_has ls 2 [(0, .ref (h 0)), (1, .int (nI v))] := hl
  refine lv_iload_n hX_ hB_ dX1_at_0 rfl (lv_at hl 1 rfl) ?_
  refine lv_ldc (v := nI 2147483647) hX_ hB_ hown (hts _ q206) dX1_at_1 ?_
  refine sd_iandE (sd_andM _) hX_ hB_ dX1_at_3 ?_
  refine lv_aload_n hX_ hB_ dX1_at_4 rfl (lv_at hl 0 rfl) ?_
  refine sd_getM E hW 2 (v := .int (nI (S 0 2))) (by decide) rfl q174 dX1_at_5 ?_
  refine sd_irem hX_ hB_ dX1_at_8 (by omega) (by omega) (by omega) ?_
  exact sd_iret E hr hlk () hW rfl dX1_at_9
end
section
section
variable {p : Program} {l : Launch} {e : Env} {R : Room} {s : State} {m : MethodId} {args : Array Value} {below : List Frame} {meth : Method} {c : Code} {cells slots : Nat} {Q : State → Prop} {pc : Nat}
theorem sd_loop1 {s0 : Type} {st : List Value} (I : Nat → s0 → Heap → List Loc → Array Slot → Prop)
    (body : ∀ (n : Nat) (x0 : s0) (H : Heap) (locs : List Loc) (ls : Array Slot), I n x0 H locs ls → (∀ (n' : Nat) (y0 : s0) (H' : Heap) (locs' : List Loc) (ls' : Array Slot), n' < n → I n' y0 H' locs' ls' → W p l e R s m args below meth c H' locs' cells slots Q (F0 m pc ls' st)) → W p l e R s m args below meth c H locs cells slots Q (F0 m pc ls st)) :
    ∀ (n : Nat) (x0 : s0) (H : Heap) (locs : List Loc) (ls : Array Slot), I n x0 H locs ls → W p l e R s m args below meth c H locs cells slots Q (F0 m pc ls st) := by
  intro n
  induction n using Nat.strongRecOn with
  | _ n ih =>
    intro x0 H locs ls hI
    exact body n x0 H locs ls hI (fun n' y0 H' locs' ls' hlt hI' => ih n' hlt y0 H' locs' ls' hI')
theorem sd_loop2 {s0 s1 : Type} {st : List Value} (I : Nat → s0 → s1 → Heap → List Loc → Array Slot → Prop)
    (body : ∀ (n : Nat) (x0 : s0) (x1 : s1) (H : Heap) (locs : List Loc) (ls : Array Slot), I n x0 x1 H locs ls → (∀ (n' : Nat) (y0 : s0) (y1 : s1) (H' : Heap) (locs' : List Loc) (ls' : Array Slot), n' < n → I n' y0 y1 H' locs' ls' → W p l e R s m args below meth c H' locs' cells slots Q (F0 m pc ls' st)) → W p l e R s m args below meth c H locs cells slots Q (F0 m pc ls st)) :
    ∀ (n : Nat) (x0 : s0) (x1 : s1) (H : Heap) (locs : List Loc) (ls : Array Slot), I n x0 x1 H locs ls → W p l e R s m args below meth c H locs cells slots Q (F0 m pc ls st) := by
  intro n
  induction n using Nat.strongRecOn with
  | _ n ih =>
    intro x0 x1 H locs ls hI
    exact body n x0 x1 H locs ls hI (fun n' y0 y1 H' locs' ls' hlt hI' => ih n' hlt y0 y1 H' locs' ls' hI')
theorem sd_loop3 {s0 s1 s2 : Type} {st : List Value} (I : Nat → s0 → s1 → s2 → Heap → List Loc → Array Slot → Prop)
    (body : ∀ (n : Nat) (x0 : s0) (x1 : s1) (x2 : s2) (H : Heap) (locs : List Loc) (ls : Array Slot), I n x0 x1 x2 H locs ls → (∀ (n' : Nat) (y0 : s0) (y1 : s1) (y2 : s2) (H' : Heap) (locs' : List Loc) (ls' : Array Slot), n' < n → I n' y0 y1 y2 H' locs' ls' → W p l e R s m args below meth c H' locs' cells slots Q (F0 m pc ls' st)) → W p l e R s m args below meth c H locs cells slots Q (F0 m pc ls st)) :
    ∀ (n : Nat) (x0 : s0) (x1 : s1) (x2 : s2) (H : Heap) (locs : List Loc) (ls : Array Slot), I n x0 x1 x2 H locs ls → W p l e R s m args below meth c H locs cells slots Q (F0 m pc ls st) := by
  intro n
  induction n using Nat.strongRecOn with
  | _ n ih =>
    intro x0 x1 x2 H locs ls hI
    exact body n x0 x1 x2 H locs ls hI (fun n' y0 y1 y2 H' locs' ls' hlt hI' => ih n' hlt y0 y1 y2 H' locs' ls' hI')
theorem sd_loop4 {s0 s1 s2 s3 : Type} {st : List Value} (I : Nat → s0 → s1 → s2 → s3 → Heap → List Loc → Array Slot → Prop)
    (body : ∀ (n : Nat) (x0 : s0) (x1 : s1) (x2 : s2) (x3 : s3) (H : Heap) (locs : List Loc) (ls : Array Slot), I n x0 x1 x2 x3 H locs ls → (∀ (n' : Nat) (y0 : s0) (y1 : s1) (y2 : s2) (y3 : s3) (H' : Heap) (locs' : List Loc) (ls' : Array Slot), n' < n → I n' y0 y1 y2 y3 H' locs' ls' → W p l e R s m args below meth c H' locs' cells slots Q (F0 m pc ls' st)) → W p l e R s m args below meth c H locs cells slots Q (F0 m pc ls st)) :
    ∀ (n : Nat) (x0 : s0) (x1 : s1) (x2 : s2) (x3 : s3) (H : Heap) (locs : List Loc) (ls : Array Slot), I n x0 x1 x2 x3 H locs ls → W p l e R s m args below meth c H locs cells slots Q (F0 m pc ls st) := by
  intro n
  induction n using Nat.strongRecOn with
  | _ n ih =>
    intro x0 x1 x2 x3 H locs ls hI
    exact body n x0 x1 x2 x3 H locs ls hI (fun n' y0 y1 y2 y3 H' locs' ls' hlt hI' => ih n' hlt y0 y1 y2 y3 H' locs' ls' hI')
theorem sd_loop5 {s0 s1 s2 s3 s4 : Type} {st : List Value} (I : Nat → s0 → s1 → s2 → s3 → s4 → Heap → List Loc → Array Slot → Prop)
    (body : ∀ (n : Nat) (x0 : s0) (x1 : s1) (x2 : s2) (x3 : s3) (x4 : s4) (H : Heap) (locs : List Loc) (ls : Array Slot), I n x0 x1 x2 x3 x4 H locs ls → (∀ (n' : Nat) (y0 : s0) (y1 : s1) (y2 : s2) (y3 : s3) (y4 : s4) (H' : Heap) (locs' : List Loc) (ls' : Array Slot), n' < n → I n' y0 y1 y2 y3 y4 H' locs' ls' → W p l e R s m args below meth c H' locs' cells slots Q (F0 m pc ls' st)) → W p l e R s m args below meth c H locs cells slots Q (F0 m pc ls st)) :
    ∀ (n : Nat) (x0 : s0) (x1 : s1) (x2 : s2) (x3 : s3) (x4 : s4) (H : Heap) (locs : List Loc) (ls : Array Slot), I n x0 x1 x2 x3 x4 H locs ls → W p l e R s m args below meth c H locs cells slots Q (F0 m pc ls st) := by
  intro n
  induction n using Nat.strongRecOn with
  | _ n ih =>
    intro x0 x1 x2 x3 x4 H locs ls hI
    exact body n x0 x1 x2 x3 x4 H locs ls hI (fun n' y0 y1 y2 y3 y4 H' locs' ls' hlt hI' => ih n' hlt y0 y1 y2 y3 y4 H' locs' ls' hI')
theorem sd_loop6 {s0 s1 s2 s3 s4 s5 : Type} {st : List Value} (I : Nat → s0 → s1 → s2 → s3 → s4 → s5 → Heap → List Loc → Array Slot → Prop)
    (body : ∀ (n : Nat) (x0 : s0) (x1 : s1) (x2 : s2) (x3 : s3) (x4 : s4) (x5 : s5) (H : Heap) (locs : List Loc) (ls : Array Slot), I n x0 x1 x2 x3 x4 x5 H locs ls → (∀ (n' : Nat) (y0 : s0) (y1 : s1) (y2 : s2) (y3 : s3) (y4 : s4) (y5 : s5) (H' : Heap) (locs' : List Loc) (ls' : Array Slot), n' < n → I n' y0 y1 y2 y3 y4 y5 H' locs' ls' → W p l e R s m args below meth c H' locs' cells slots Q (F0 m pc ls' st)) → W p l e R s m args below meth c H locs cells slots Q (F0 m pc ls st)) :
    ∀ (n : Nat) (x0 : s0) (x1 : s1) (x2 : s2) (x3 : s3) (x4 : s4) (x5 : s5) (H : Heap) (locs : List Loc) (ls : Array Slot), I n x0 x1 x2 x3 x4 x5 H locs ls → W p l e R s m args below meth c H locs cells slots Q (F0 m pc ls st) := by
  intro n
  induction n using Nat.strongRecOn with
  | _ n ih =>
    intro x0 x1 x2 x3 x4 x5 H locs ls hI
    exact body n x0 x1 x2 x3 x4 x5 H locs ls hI (fun n' y0 y1 y2 y3 y4 y5 H' locs' ls' hlt hI' => ih n' hlt y0 y1 y2 y3 y4 y5 H' locs' ls' hI')
theorem sd_loop7 {s0 s1 s2 s3 s4 s5 s6 : Type} {st : List Value} (I : Nat → s0 → s1 → s2 → s3 → s4 → s5 → s6 → Heap → List Loc → Array Slot → Prop)
    (body : ∀ (n : Nat) (x0 : s0) (x1 : s1) (x2 : s2) (x3 : s3) (x4 : s4) (x5 : s5) (x6 : s6) (H : Heap) (locs : List Loc) (ls : Array Slot), I n x0 x1 x2 x3 x4 x5 x6 H locs ls → (∀ (n' : Nat) (y0 : s0) (y1 : s1) (y2 : s2) (y3 : s3) (y4 : s4) (y5 : s5) (y6 : s6) (H' : Heap) (locs' : List Loc) (ls' : Array Slot), n' < n → I n' y0 y1 y2 y3 y4 y5 y6 H' locs' ls' → W p l e R s m args below meth c H' locs' cells slots Q (F0 m pc ls' st)) → W p l e R s m args below meth c H locs cells slots Q (F0 m pc ls st)) :
    ∀ (n : Nat) (x0 : s0) (x1 : s1) (x2 : s2) (x3 : s3) (x4 : s4) (x5 : s5) (x6 : s6) (H : Heap) (locs : List Loc) (ls : Array Slot), I n x0 x1 x2 x3 x4 x5 x6 H locs ls → W p l e R s m args below meth c H locs cells slots Q (F0 m pc ls st) := by
  intro n
  induction n using Nat.strongRecOn with
  | _ n ih =>
    intro x0 x1 x2 x3 x4 x5 x6 H locs ls hI
    exact body n x0 x1 x2 x3 x4 x5 x6 H locs ls hI (fun n' y0 y1 y2 y3 y4 y5 y6 H' locs' ls' hlt hI' => ih n' hlt y0 y1 y2 y3 y4 y5 y6 H' locs' ls' hI')
end
/-! the machine that both sides hold -/
def sd_mch (n : Nat) (g : Nat → Nat) : Prop := 1 ≤ n ∧ n ≤ 16 ∧ ∀ j, j < 32 → g j < n
def sd_XB (n : Nat) (g : Nat → Nat) (F : Nat → Bool) (S : Nat → Nat → Nat) : Prop := sd_mch n g ∧ S 0 0 = n ∧ (∀ j, j < 32 → S 1 j = g j) ∧ S 0 1 < 2 ^ n ∧ ∀ p, p < 16 → (S 0 1).testBit p = F p
def sd_MB (n : Nat) (g : Nat → Nat) (F : Nat → Bool) (S : Nat → Nat → Nat) : Prop := sd_mch n g ∧ S 0 2 = n ∧ (∀ j, j < 32 → S 1 j = g j) ∧ ∀ p, p < 16 → S 2 p = if F p = true then 1 else 0
def sd_ge (g : Nat → Nat) (x a b : Nat) : Nat → Nat := fun j => if j = 2 * x + 1 then b else if j = 2 * x then a else g j
def sd_Fe (F : Nat → Bool) (x e : Nat) : Nat → Bool := fun p => if p = x then decide (e % 2 = 1) else F p
/-- k letters of a word, its lowest bit first -/
def dm_tk (g : Nat → Nat) (p w : Nat) : Nat → Nat
  | 0 => p
  | k + 1 => g (2 * dm_tk g p w k + w / 2 ^ k % 2)
theorem dm_tk_lt {n : Nat} {g : Nat → Nat} (hm : sd_mch n g) {p : Nat} (hp : p < n) (w k : Nat) : dm_tk g p w k < n := by
  induction k with
  | zero => exact hp
  | succ k ih =>
    have := hm.2.1
    exact hm.2.2 _ (by omega)
/-- how many words of length k are taken from p -/
def dm_wd (g : Nat → Nat) (F : Nat → Bool) : Nat → Nat → Nat
  | 0, p => if F p = true then 1 else 0
  | k + 1, p => dm_wd g F k (g (2 * p)) + dm_wd g F k (g (2 * p + 1))
/-- reached from s -/
def dm_re (g : Nat → Nat) (s p : Nat) : Prop := ∃ c, 1 ≤ c ∧ dm_run g s c = p
/-- r is the least word that tells p and q apart, or 0 if there is none -/
def dm_wi (g : Nat → Nat) (F : Nat → Bool) (p q r : Nat) : Prop := (r = 0 ∧ dm_eq g F p q) ∨ (1 ≤ r ∧ F (dm_run g p r) ≠ F (dm_run g q r) ∧ ∀ c, 1 ≤ c → c < r → F (dm_run g p c) = F (dm_run g q c))
theorem dm_wi_one {g : Nat → Nat} {F : Nat → Bool} {p q r r2 : Nat} (h : dm_wi g F p q r) (h2 : dm_wi g F p q r2) : r = r2 := by
  rcases h with ⟨rfl, h⟩ | ⟨a, b, c⟩
  · rcases h2 with ⟨rfl, -⟩ | ⟨a, b, c⟩
    · rfl
    · exact absurd (dm_eq_at h a) b
  · rcases h2 with ⟨rfl, h2⟩ | ⟨a2, b2, c2⟩
    · exact absurd (dm_eq_at h2 a) b
    · rcases Nat.lt_trichotomy r r2 with z | z | z
      · exact absurd (c2 r a z) b
      · exact z
      · exact absurd (c r2 a2 z) b2
end
section
set_option maxHeartbeats 4000000 in
set_option maxRecDepth 100000 in
/-- model: states -/
theorem m_Mstates (l : Launch) (D : va_G) (d : Nat → ClassId) (h : Nat → Nat) (S : Nat → Nat → Nat) {v : Nat} (sz : Nat) : Met l yX1_states (ws_ yX1_states cX1_states 3 none) (sd_rm 0) (va_Pc [.ref (h 0), .int (nI v)] (sd_P D d (sd_wM h d S) sz)) (sd_Qv D (fun u : Nat → Nat → Nat => sd_MB (1 + v % 16) (fun _ => 0) (fun _ => false) u) (fun u => sd_wM h d u) (va_A (sd_wM h d S) sz)) 0 0 (va_A (sd_wM h d S) sz) := by
  refine sd_ofW (Qc := sd_Qv D (fun u : Nat → Nat → Nat => sd_MB (1 + v % 16) (fun _ => 0) (fun _ => false) u) (fun u => sd_wM h d u)) (own := RX1) (by decide) rfl (Nat.le_of_ble_eq_true rfl) ?_
  intro p e s m below meth c ls A E hr hlk hnm hA hW hl
  have hX_ := E.1.1
  have hB_ := E.1.2.1
  have hown := E.1.2.2.2.1
  have hts := E.1.2.2.2.2
  have hl : lv_has ls 3 [(0, .ref (h 0)), (1, .int (nI v))] := hl
  refine lv_aload_n hX_ hB_ dX1_states_0 rfl (lv_at hl 0 rfl) ?_
  refine lv_iconst (v := nI 1) hX_ hB_ dX1_states_1 (by decide) ?_
  refine lv_iload_n hX_ hB_ dX1_states_2 rfl (lv_at hl 1 rfl) ?_
  refine lv_bipush (v := nI 15) hX_ hB_ dX1_states_3 (by decide) ?_
  refine sd_iandE (sd_and15 _) hX_ hB_ dX1_states_5 ?_
  refine sd_iadd hX_ hB_ dX1_states_6 ?_
  refine sd_putM E hW q174 dX1_states_7 (fun H locs hW => ?_)
  refine lv_iconst (v := nI 0) hX_ hB_ dX1_states_10 (by decide) ?_
  refine lv_istore_n (lv' := [(2, .int (nI 0)), (0, .ref (h 0)), (1, .int (nI v))]) hX_ hB_ dX1_states_11 rfl hl (by decide) rfl (fun ls hl => ?_)
  refine sd_loop2 (fun nn (i : Nat) (T : Nat → Nat → Nat) H locs ls => nn = 32 - i ∧ (i ≤ 32) ∧ (T 0 2 = 1 + v % 16) ∧ (∀ j, j < i → T 1 j = 0) ∧ sd_W D A s.heap (sd_wM h d T) H locs ∧ lv_has ls 3 [(0, .ref (h 0)), (2, .int (nI i))]) (fun nn i T H locs ls hI ih => ?_) _ 0 ((sd_up S 0 2 (1 + (v % 16)))) _ _ _ ⟨rfl, Nat.zero_le _, rfl, (fun j hj => absurd hj (Nat.not_lt_zero j)), hW, lv_sub hl [1, 0] rfl⟩
  · skip
    obtain ⟨rfl, hi, t0, t1, hW, hl⟩ := hI
    refine lv_iload_n hX_ hB_ dX1_states_12 rfl (lv_at hl 1 rfl) ?_
    refine lv_bipush (v := nI 32) hX_ hB_ dX1_states_13 (by decide) ?_
    refine sd_icmp_ge (tgt := 31) hX_ hB_ dX1_states_15 (by decide) (by omega) (by omega) (fun c1 => ?_) (fun c1 => ?_)
    · skip
      refine lv_iconst (v := nI 0) hX_ hB_ dX1_states_31 (by decide) ?_
      refine lv_istore_n (lv' := [(2, .int (nI 0)), (0, .ref (h 0))]) hX_ hB_ dX1_states_32 rfl hl (by decide) rfl (fun ls hl => ?_)
      refine sd_loop2 (fun nn (i : Nat) (T : Nat → Nat → Nat) H locs ls => nn = 16 - i ∧ (i ≤ 16) ∧ (T 0 2 = 1 + v % 16) ∧ (∀ j, j < 32 → T 1 j = 0) ∧ (∀ j, j < i → T 2 j = 0) ∧ sd_W D A s.heap (sd_wM h d T) H locs ∧ lv_has ls 3 [(0, .ref (h 0)), (2, .int (nI i))]) (fun nn i T H locs ls hI ih => ?_) _ 0 T _ _ _ ⟨rfl, Nat.zero_le _, t0, (fun j hj => t1 j (by omega)), (fun j hj => absurd hj (Nat.not_lt_zero j)), hW, lv_sub hl [1, 0] rfl⟩
      · skip
        obtain ⟨rfl, hi, t0, t1, t2, hW, hl⟩ := hI
        refine lv_iload_n hX_ hB_ dX1_states_33 rfl (lv_at hl 1 rfl) ?_
        refine lv_bipush (v := nI 16) hX_ hB_ dX1_states_34 (by decide) ?_
        refine sd_icmp_ge (tgt := 52) hX_ hB_ dX1_states_36 (by decide) (by omega) (by omega) (fun c2 => ?_) (fun c2 => ?_)
        · skip
          refine sd_vret E hr hlk T hW ⟨⟨by omega, by omega, fun j _ => by show 0 < _; omega⟩, t0, t1, fun p hp => ?_⟩ dX1_states_52
          rw [t2 p (by omega)]
          rfl
        · skip
          refine lv_aload_n hX_ hB_ dX1_states_39 rfl (lv_at hl 0 rfl) ?_
          refine sd_getM E hW 1 (v := .ref (h 2)) (by decide) rfl q173 dX1_states_40 ?_
          refine lv_iload_n hX_ hB_ dX1_states_43 rfl (lv_at hl 1 rfl) ?_
          refine lv_iconst (v := nI 0) hX_ hB_ dX1_states_44 (by decide) ?_
          refine sd_zastM E hW 2 (by decide) (by omega) (show i < 16 by omega) dX1_states_45 (fun H locs hW => ?_)
          refine sd_iinc (lv' := [(2, .int (nI (i + 1))), (0, .ref (h 0))]) hX_ hB_ dX1_states_46 hl (k := 1) rfl (by decide) rfl (fun ls hl => ?_)
          refine lv_goto (tgt := 33) hX_ hB_ dX1_states_49 (by decide) ?_
          exact ih _ (i + 1) (sd_up T 2 i 0) H locs ls (by omega) ⟨rfl, by omega, t0, t1, (fun j hj => by rw [sd_up_at]; split; rfl; exact t2 j (by omega)), hW, lv_sub hl [1, 0] rfl⟩
    · skip
      refine lv_aload_n hX_ hB_ dX1_states_18 rfl (lv_at hl 0 rfl) ?_
      refine sd_getM E hW 0 (v := .ref (h 1)) (by decide) rfl q172 dX1_states_19 ?_
      refine lv_iload_n hX_ hB_ dX1_states_22 rfl (lv_at hl 1 rfl) ?_
      refine lv_iconst (v := nI 0) hX_ hB_ dX1_states_23 (by decide) ?_
      refine sd_astM E hW 1 (by decide) (show i < 32 by omega) dX1_states_24 (fun H locs hW => ?_)
      refine sd_iinc (lv' := [(2, .int (nI (i + 1))), (0, .ref (h 0))]) hX_ hB_ dX1_states_25 hl (k := 1) rfl (by decide) rfl (fun ls hl => ?_)
      refine lv_goto (tgt := 12) hX_ hB_ dX1_states_28 (by decide) ?_
      exact ih _ (i + 1) (sd_up T 1 i 0) H locs ls (by omega) ⟨rfl, by omega, t0, (fun j hj => by rw [sd_up_at]; split; rfl; exact t1 j (by omega)), hW, lv_sub hl [1, 0] rfl⟩

set_option maxHeartbeats 4000000 in
set_option maxRecDepth 100000 in
/-- model: set -/
theorem m_Mset (l : Launch) (D : va_G) (d : Nat → ClassId) (h : Nat → Nat) (S : Nat → Nat → Nat) {n : Nat} {g : Nat → Nat} {F : Nat → Bool} (hB : sd_MB n g F S) {v a b f : Nat} (sz : Nat) : Met l yX1_set (ws_ yX1_set cX1_set 6 none) (sd_rm 1) (va_Pc [.ref (h 0), .int (nI v), .int (nI a), .int (nI b), .int (nI f)] (sd_P D d (sd_wM h d S) sz)) (sd_Qv D (fun u : Nat → Nat → Nat => sd_MB n (sd_ge g (v % 2147483648 % n) (a % 2147483648 % n) (b % 2147483648 % n)) (sd_Fe F (v % 2147483648 % n) f) u) (fun u => sd_wM h d u) (va_A (sd_wM h d S) sz)) 0 0 (va_A (sd_wM h d S) sz) := by
  refine sd_ofW (Qc := sd_Qv D (fun u : Nat → Nat → Nat => sd_MB n (sd_ge g (v % 2147483648 % n) (a % 2147483648 % n) (b % 2147483648 % n)) (sd_Fe F (v % 2147483648 % n) f) u) (fun u => sd_wM h d u)) (own := RX1) (by decide) rfl (Nat.le_of_ble_eq_true rfl) ?_
  intro p e s m below meth c ls A E hr hlk hnm hA hW hl
  have hX_ := E.1.1
  have hB_ := E.1.2.1
  have hown := E.1.2.2.2.1
  have hts := E.1.2.2.2.2
  have hl : lv_has ls 6 [(0, .ref (h 0)), (1, .int (nI v)), (2, .int (nI a)), (3, .int (nI b)), (4, .int (nI f))] := hl
  obtain ⟨⟨hn1, hn2, hg⟩, e0, e1, e2⟩ := id hB
  subst e0
  have hv1 : v % 2147483648 % S 0 2 < S 0 2 := Nat.mod_lt _ (by omega)
  have hv2 : a % 2147483648 % S 0 2 < S 0 2 := Nat.mod_lt _ (by omega)
  have hv3 : b % 2147483648 % S 0 2 < S 0 2 := Nat.mod_lt _ (by omega)
  refine lv_aload_n hX_ hB_ dX1_set_0 rfl (lv_at hl 0 rfl) ?_
  refine lv_iload_n hX_ hB_ dX1_set_1 rfl (lv_at hl 1 rfl) ?_
  refine sd_callVi (y := yX1_at) (by_ := cX1_at) E hW hA [.int (nI v)] rfl rfl (m_at l D d h S (v := v) hn1 hn2 _) (cwV 1 hts (lw_V q202 q204 qs9 q15 q205) rfl rfl rfl (by decide +kernel) ⟨Nat.le_of_ble_eq_true rfl, Nat.le_of_ble_eq_true rfl⟩) rfl (fun _ => rfl) hl.1 rfl (Nat.le_of_ble_eq_true rfl) dX1_set_2 ⟨Nat.zero_le _, Nat.zero_le _⟩ (fun r u H locs hw hW => ?_)
  subst hw
  obtain ⟨x, ex⟩ : ∃ x, x = v % 2147483648 % S 0 2 := ⟨_, rfl⟩
  rw [← ex] at hv1 ⊢
  refine lv_istore (lv' := [(5, .int (nI x)), (0, .ref (h 0)), (1, .int (nI v)), (2, .int (nI a)), (3, .int (nI b)), (4, .int (nI f))]) hX_ hB_ dX1_set_5 hl (by decide) rfl (fun ls hl => ?_)
  refine lv_aload_n hX_ hB_ dX1_set_7 rfl (lv_at hl 1 rfl) ?_
  refine sd_getM E hW 0 (v := .ref (h 1)) (by decide) rfl q172 dX1_set_8 ?_
  refine lv_iconst (v := nI 2) hX_ hB_ dX1_set_11 (by decide) ?_
  refine lv_iload hX_ hB_ dX1_set_12 (lv_at hl 0 rfl) ?_
  refine sd_imul hX_ hB_ dX1_set_14 ?_
  refine lv_aload_n hX_ hB_ dX1_set_15 rfl (lv_at hl 1 rfl) ?_
  refine lv_iload_n hX_ hB_ dX1_set_16 rfl (lv_at hl 3 rfl) ?_
  refine sd_callVi (y := yX1_at) (by_ := cX1_at) E hW hA [.int (nI a)] rfl rfl (m_at l D d h S (v := a) hn1 hn2 _) (cwV 1 hts (lw_V q202 q204 qs9 q15 q205) rfl rfl rfl (by decide +kernel) ⟨Nat.le_of_ble_eq_true rfl, Nat.le_of_ble_eq_true rfl⟩) rfl (fun _ => rfl) hl.1 rfl (Nat.le_of_ble_eq_true rfl) dX1_set_17 ⟨Nat.zero_le _, Nat.zero_le _⟩ (fun r u H locs hw hW => ?_)
  subst hw
  refine sd_astM E hW 1 (by decide) (show 2 * x < 32 by omega) dX1_set_20 (fun H locs hW => ?_)
  refine lv_aload_n hX_ hB_ dX1_set_21 rfl (lv_at hl 1 rfl) ?_
  refine sd_getM E hW 0 (v := .ref (h 1)) (by decide) rfl q172 dX1_set_22 ?_
  refine lv_iconst (v := nI 2) hX_ hB_ dX1_set_25 (by decide) ?_
  refine lv_iload hX_ hB_ dX1_set_26 (lv_at hl 0 rfl) ?_
  refine sd_imul hX_ hB_ dX1_set_28 ?_
  refine lv_iconst (v := nI 1) hX_ hB_ dX1_set_29 (by decide) ?_
  refine sd_iadd hX_ hB_ dX1_set_30 ?_
  refine lv_aload_n hX_ hB_ dX1_set_31 rfl (lv_at hl 1 rfl) ?_
  refine lv_iload_n hX_ hB_ dX1_set_32 rfl (lv_at hl 4 rfl) ?_
  refine sd_callVi (y := yX1_at) (by_ := cX1_at) E hW hA [.int (nI b)] rfl rfl (m_at l D d h (sd_up S 1 (2 * x) (a % 2147483648 % S 0 2)) (v := b) hn1 hn2 _) (cwV 1 hts (lw_V q202 q204 qs9 q15 q205) rfl rfl rfl (by decide +kernel) ⟨Nat.le_of_ble_eq_true rfl, Nat.le_of_ble_eq_true rfl⟩) rfl (fun _ => rfl) hl.1 rfl (Nat.le_of_ble_eq_true rfl) dX1_set_33 ⟨Nat.zero_le _, Nat.zero_le _⟩ (fun r u H locs hw hW => ?_)
  subst hw
  refine sd_astM E hW 1 (by decide) (show 2 * x + 1 < 32 by omega) dX1_set_36 (fun H locs hW => ?_)
  refine lv_aload_n hX_ hB_ dX1_set_37 rfl (lv_at hl 1 rfl) ?_
  refine sd_getM E hW 1 (v := .ref (h 2)) (by decide) rfl q173 dX1_set_38 ?_
  refine lv_iload hX_ hB_ dX1_set_41 (lv_at hl 0 rfl) ?_
  refine lv_iload hX_ hB_ dX1_set_43 (lv_at hl 5 rfl) ?_
  refine lv_iconst (v := nI 1) hX_ hB_ dX1_set_45 (by decide) ?_
  refine sd_iandE (sd_and1 _) hX_ hB_ dX1_set_46 ?_
  refine sd_cut (fun z : Nat => z = if f % 2 = 1 then 1 else 0) (fun z => F0 m 55 ls [.int (nI z), .int (nI x), .ref (h 2)]) (fun z hz => ?_) (fun J => ?_)
  · skip
    have hz2 : z < 2 := by rw [hz]; split <;> omega
    refine sd_zastM E hW 2 (by decide) hz2 (show x < 16 by omega) dX1_set_55 (fun H locs hW => ?_)
    refine sd_vret E hr hlk (sd_up (sd_up (sd_up S 1 (2 * x) (a % 2147483648 % S 0 2)) 1 ((2 * x) + 1) (b % 2147483648 % S 0 2)) 2 x z) hW ⟨⟨hn1, hn2, fun j hj => ?_⟩, rfl, fun j hj => ?_, fun p hp => ?_⟩ dX1_set_56
    · unfold sd_ge
      split
      · exact hv3
      · split
        · exact hv2
        · exact hg j hj
    · show (if j = 2 * x + 1 then _ else if j = 2 * x then _ else S 1 j) = sd_ge g x _ _ j
      rw [e1 j hj]; rfl
    · show (if p = x then z else S 2 p) = _
      unfold sd_Fe
      by_cases hpx : p = x
      · rw [if_pos hpx, if_pos hpx, hz]; by_cases q : f % 2 = 1 <;> simp [q]
      · rw [if_neg hpx, if_neg hpx]; exact e2 p hp
  · skip
    refine sd_if_eq (tgt := 54) hX_ hB_ dX1_set_47 (by decide) (by omega) (fun c1 => ?_) (fun c1 => ?_)
    · skip
      refine lv_iconst (v := nI 0) hX_ hB_ dX1_set_54 (by decide) ?_
      exact J 0 (by rw [if_neg (by omega)])
    · skip
      refine lv_iconst (v := nI 1) hX_ hB_ dX1_set_50 (by decide) ?_
      refine lv_goto (tgt := 55) hX_ hB_ dX1_set_51 (by decide) ?_
      exact J 1 (by rw [if_pos (by omega)])

set_option maxHeartbeats 4000000 in
set_option maxRecDepth 100000 in
/-- model: walk -/
theorem m_Mwalk (l : Launch) (D : va_G) (d : Nat → ClassId) (h : Nat → Nat) (S : Nat → Nat → Nat) {n : Nat} {g : Nat → Nat} {F : Nat → Bool} (hB : sd_MB n g F S) {v a k : Nat} (hv : v < n) (ha : a < 2 ^ 32) (hk : k < 32) (sz : Nat) : Met l yX1_walk (ws_ yX1_walk cX1_walk 6 (some .int)) (sd_rm 0) (va_Pc [.ref (h 0), .int (nI v), .int (nI a), .int (nI k)] (sd_P D d (sd_wM h d S) sz)) (sd_Qi D (fun (r : Int32) (_ : Unit) => r = nI (dm_tk g v a k)) (fun _ => sd_wM h d S) (va_A (sd_wM h d S) sz)) 0 0 (va_A (sd_wM h d S) sz) := by
  refine sd_ofW (Qc := sd_Qi D (fun (r : Int32) (_ : Unit) => r = nI (dm_tk g v a k)) (fun _ => sd_wM h d S)) (own := RX1) (by decide) rfl (Nat.le_of_ble_eq_true rfl) ?_
  intro p e s m below meth c ls A E hr hlk hnm hA hW hl
  have hX_ := E.1.1
  have hB_ := E.1.2.1
  have hown := E.1.2.2.2.1
  have hts := E.1.2.2.2.2
  have hl : lv_has ls 6 [(0, .ref (h 0)), (1, .int (nI v)), (2, .int (nI a)), (3, .int (nI k))] := hl
  obtain ⟨⟨hn1, hn2, hg⟩, e0, e1, e2⟩ := id hB
  refine lv_iload_n hX_ hB_ dX1_walk_0 rfl (lv_at hl 1 rfl) ?_
  refine lv_istore (lv' := [(4, .int (nI v)), (0, .ref (h 0)), (1, .int (nI v)), (2, .int (nI a)), (3, .int (nI k))]) hX_ hB_ dX1_walk_1 hl (by decide) rfl (fun ls hl => ?_)
  refine lv_iconst (v := nI 0) hX_ hB_ dX1_walk_3 (by decide) ?_
  refine lv_istore (lv' := [(5, .int (nI 0)), (4, .int (nI v)), (0, .ref (h 0)), (1, .int (nI v)), (2, .int (nI a)), (3, .int (nI k))]) hX_ hB_ dX1_walk_4 hl (by decide) rfl (fun ls hl => ?_)
  refine sd_loop1 (fun nn (i : Nat) H locs ls => nn = k - i ∧ (i ≤ k) ∧ sd_W D A s.heap (sd_wM h d S) H locs ∧ lv_has ls 6 [(0, .ref (h 0)), (2, .int (nI a)), (3, .int (nI k)), (4, .int (nI (dm_tk g v a i))), (5, .int (nI i))]) (fun nn i H locs ls hI ih => ?_) _ 0 _ _ _ ⟨rfl, Nat.zero_le _, hW, lv_sub hl [2, 4, 5, 1, 0] rfl⟩
  · skip
    obtain ⟨rfl, hi, hW, hl⟩ := hI
    refine lv_iload hX_ hB_ dX1_walk_6 (lv_at hl 4 rfl) ?_
    refine lv_iload_n hX_ hB_ dX1_walk_8 rfl (lv_at hl 2 rfl) ?_
    refine sd_icmp_ge (tgt := 36) hX_ hB_ dX1_walk_9 (by decide) (by omega) (by omega) (fun c1 => ?_) (fun c1 => ?_)
    · skip
      refine lv_iload hX_ hB_ dX1_walk_36 (lv_at hl 3 rfl) ?_
      refine sd_iret E hr hlk () hW ?_ dX1_walk_38
      rw [show i = k by omega]
    · skip
      have ht := dm_tk_lt hB.1 hv a i
      refine lv_aload_n hX_ hB_ dX1_walk_12 rfl (lv_at hl 0 rfl) ?_
      refine sd_getM E hW 0 (v := .ref (h 1)) (by decide) rfl q172 dX1_walk_13 ?_
      refine lv_iconst (v := nI 2) hX_ hB_ dX1_walk_16 (by decide) ?_
      refine lv_iload hX_ hB_ dX1_walk_17 (lv_at hl 3 rfl) ?_
      refine sd_imul hX_ hB_ dX1_walk_19 ?_
      refine lv_iload_n hX_ hB_ dX1_walk_20 rfl (lv_at hl 1 rfl) ?_
      refine lv_iload hX_ hB_ dX1_walk_21 (lv_at hl 4 rfl) ?_
      refine lv_ishr hX_ hB_ dX1_walk_23 ?_
      refine lv_iconst (v := nI 1) hX_ hB_ dX1_walk_24 (by decide) ?_
      refine sd_iandE (sd_sbit ha (show i < 32 by omega)) hX_ hB_ dX1_walk_25 ?_
      refine sd_iadd hX_ hB_ dX1_walk_26 ?_
      refine sd_ald (f := S 1) E hW 1 rfl (by omega) (by decide) dX1_walk_27 ?_
      rw [e1 _ (by omega)]
      refine lv_istore (lv' := [(4, .int (nI (dm_tk g v a (i + 1)))), (0, .ref (h 0)), (2, .int (nI a)), (3, .int (nI k)), (5, .int (nI i))]) hX_ hB_ dX1_walk_28 hl (by decide) rfl (fun ls hl => ?_)
      refine sd_iinc (lv' := [(5, .int (nI (i + 1))), (4, .int (nI (dm_tk g v a (i + 1)))), (0, .ref (h 0)), (2, .int (nI a)), (3, .int (nI k))]) hX_ hB_ dX1_walk_30 hl (k := 4) rfl (by decide) rfl (fun ls hl => ?_)
      refine lv_goto (tgt := 6) hX_ hB_ dX1_walk_33 (by decide) ?_
      exact ih _ (i + 1) H locs ls (by omega) ⟨rfl, by omega, hW, lv_sub hl [2, 3, 4, 1, 0] rfl⟩

set_option maxHeartbeats 4000000 in
set_option maxRecDepth 100000 in
/-- model: takes -/
theorem m_Mtakes (l : Launch) (D : va_G) (d : Nat → ClassId) (h : Nat → Nat) (S : Nat → Nat → Nat) {n : Nat} {g : Nat → Nat} {F : Nat → Bool} (hB : sd_MB n g F S) {v a k : Nat} (ha : a < 2 ^ 32) (sz : Nat) : Met l yX1_takes (ws_ yX1_takes cX1_takes 4 (some .boolean)) (sd_rm 1) (va_Pc [.ref (h 0), .int (nI v), .int (nI a), .int (nI k)] (sd_P D d (sd_wM h d S) sz)) (sd_Qi D (fun (r : Int32) (_ : Unit) => r = nI (if F (dm_tk g (v % 2147483648 % n) a (k % 32)) = true then 1 else 0)) (fun _ => sd_wM h d S) (va_A (sd_wM h d S) sz)) 0 0 (va_A (sd_wM h d S) sz) := by
  refine sd_ofW (Qc := sd_Qi D (fun (r : Int32) (_ : Unit) => r = nI (if F (dm_tk g (v % 2147483648 % n) a (k % 32)) = true then 1 else 0)) (fun _ => sd_wM h d S)) (own := RX1) (by decide) rfl (Nat.le_of_ble_eq_true rfl) ?_
  intro p e s m below meth c ls A E hr hlk hnm hA hW hl
  have hX_ := E.1.1
  have hB_ := E.1.2.1
  have hown := E.1.2.2.2.1
  have hts := E.1.2.2.2.2
  have hl : lv_has ls 4 [(0, .ref (h 0)), (1, .int (nI v)), (2, .int (nI a)), (3, .int (nI k))] := hl
  obtain ⟨⟨hn1, hn2, hg⟩, e0, e1, e2⟩ := id hB
  subst e0
  have hv1 : v % 2147483648 % S 0 2 < S 0 2 := Nat.mod_lt _ (by omega)
  refine lv_aload_n hX_ hB_ dX1_takes_0 rfl (lv_at hl 0 rfl) ?_
  refine sd_getM E hW 1 (v := .ref (h 2)) (by decide) rfl q173 dX1_takes_1 ?_
  refine lv_aload_n hX_ hB_ dX1_takes_4 rfl (lv_at hl 0 rfl) ?_
  refine lv_aload_n hX_ hB_ dX1_takes_5 rfl (lv_at hl 0 rfl) ?_
  refine lv_iload_n hX_ hB_ dX1_takes_6 rfl (lv_at hl 1 rfl) ?_
  refine sd_callVi (y := yX1_at) (by_ := cX1_at) E hW hA [.int (nI v)] rfl rfl (m_at l D d h S (v := v) hn1 hn2 _) (cwV 1 hts (lw_V q202 q204 qs9 q15 q205) rfl rfl rfl (by decide +kernel) ⟨Nat.le_of_ble_eq_true rfl, Nat.le_of_ble_eq_true rfl⟩) rfl (fun _ => rfl) hl.1 rfl (Nat.le_of_ble_eq_true rfl) dX1_takes_7 ⟨Nat.zero_le _, Nat.zero_le _⟩ (fun r u H locs hw hW => ?_)
  subst hw
  refine lv_iload_n hX_ hB_ dX1_takes_10 rfl (lv_at hl 2 rfl) ?_
  refine lv_iload_n hX_ hB_ dX1_takes_11 rfl (lv_at hl 3 rfl) ?_
  refine lv_bipush (v := nI 31) hX_ hB_ dX1_takes_12 (by decide) ?_
  refine sd_iandE (sd_and31 _) hX_ hB_ dX1_takes_14 ?_
  refine sd_callVi (y := yX1_walk) (by_ := cX1_walk) E hW hA [.int (nI (v % 2147483648 % S 0 2)), .int (nI a), .int (nI (k % 32))] rfl rfl (m_Mwalk l D d h S hB hv1 ha (Nat.mod_lt k (by decide)) _) (cwV 3 hts (lw_V q211 q213 qs10 q15 q214) rfl rfl rfl (by decide +kernel) ⟨Nat.le_of_ble_eq_true rfl, Nat.le_of_ble_eq_true rfl⟩) rfl (fun _ => rfl) hl.1 rfl (Nat.le_of_ble_eq_true rfl) dX1_takes_15 ⟨Nat.zero_le _, Nat.zero_le _⟩ (fun r u H locs hw hW => ?_)
  subst hw
  have ht := dm_tk_lt hB.1 hv1 a (k % 32)
  refine sd_zald (f := S 2) E hW 2 rfl (by omega) (by decide) dX1_takes_18 ?_
  rw [e2 _ (by omega)]
  refine sd_zret ?_ E hr hlk () hW rfl dX1_takes_19
  split <;> omega
end
section
/-! the model's table of pairs told apart -/
def sd_ap (n : Nat) (g : Nat → Nat) (F : Nat → Bool) (S T : Nat → Nat → Nat) : Prop := (∀ c, c ≠ 3 → T c = S c) ∧ (∀ j, j < 256 → T 3 j < 2) ∧ (∀ p q, p < n → q < n → T 3 (16 * p + q) = 1 → ∃ d, dm_df g F p q d) ∧ (∀ p q, p < n → q < n → F p ≠ F q → T 3 (16 * p + q) = 1)
def sd_as (g : Nat → Nat) (T : Nat → Nat → Nat) (p q : Nat) : Prop := T 3 (16 * p + q) = 0 → ∀ x, x < 2 → T 3 (16 * g (2 * p + x) + g (2 * q + x)) = 0
def sd_az (T : Nat → Nat → Nat) : Nat := dm_cnt (fun j => decide (T 3 j = 0)) 256
theorem sd_ap_put {n : Nat} {g : Nat → Nat} {F : Nat → Bool} {S T : Nat → Nat → Nat} (hm : sd_mch n g) (h : sd_ap n g F S T) {p q x : Nat} (hp : p < n) (hq : q < n) (hx : x < 2) (h1 : T 3 (16 * g (2 * p + x) + g (2 * q + x)) = 1) : sd_ap n g F S (sd_up T 3 (16 * p + q) 1) := by
  obtain ⟨a, b, c, d⟩ := h
  have h16 := hm.2.1
  refine ⟨fun c' hc => ?_, fun j hj => ?_, fun p' q' hp' hq' hv => ?_, fun p' q' hp' hq' hv => ?_⟩
  · rw [sd_up_c _ _ _ hc]; exact a c' hc
  · rw [sd_up_at]; split
    · omega
    · exact b j hj
  · rw [sd_up_at] at hv
    by_cases e : 16 * p' + q' = 16 * p + q
    · have e1 : p' = p := by omega
      have e2 : q' = q := by omega
      subst e1 e2
      obtain ⟨dd, hd⟩ := c _ _ (hm.2.2 _ (by omega)) (hm.2.2 _ (by omega)) h1
      exact ⟨dd + 1, dm_df_s.mpr ⟨x, hx, hd⟩⟩
    · rw [if_neg e] at hv
      exact c p' q' hp' hq' hv
  · rw [sd_up_at]; split
    · rfl
    · exact d p' q' hp' hq' hv
theorem sd_az_put {T : Nat → Nat → Nat} {k : Nat} (hk : k < 256) (h0 : T 3 k = 0) : sd_az (sd_up T 3 k 1) < sd_az T := by
  refine dm_cnt_lt (k := k) (fun p _ hp => ?_) hk (by simpa using h0) (by simp [sd_up_at])
  simp only [decide_eq_true_eq, sd_up_at] at hp ⊢
  split at hp
  · omega
  · exact hp
theorem sd_ap_end {n : Nat} {g : Nat → Nat} {F : Nat → Bool} {S T : Nat → Nat → Nat} (hm : sd_mch n g) (h : sd_ap n g F S T) (hs : ∀ p q, p < n → q < n → sd_as g T p q) {p q : Nat} (hp : p < n) (hq : q < n) : T 3 (16 * p + q) = if dm_b (dm_eq g F p q) = true then 0 else 1 := by
  obtain ⟨a, b, c, d⟩ := h
  have h16 := hm.2.1
  have hb := b (16 * p + q) (by omega)
  by_cases e : dm_eq g F p q
  · rw [if_pos (dm_b_t.mpr e)]
    rcases (show T 3 (16 * p + q) = 0 ∨ T 3 (16 * p + q) = 1 by omega) with z | z
    · exact z
    · obtain ⟨dd, hd⟩ := c p q hp hq z
      exact absurd hd (e dd)
  · rw [if_neg (fun z => e (dm_b_t.mp z))]
    rcases (show T 3 (16 * p + q) = 0 ∨ T 3 (16 * p + q) = 1 by omega) with z | z
    · refine absurd (dm_bisim (fun p q => p < n ∧ q < n ∧ T 3 (16 * p + q) = 0) ?_ ?_ ⟨hp, hq, z⟩) e
      · rintro p q ⟨hp, hq, h0⟩
        apply Classical.byContradiction
        intro hne
        have := d p q hp hq hne
        omega
      · rintro p q x ⟨hp, hq, h0⟩ hx
        exact ⟨hm.2.2 _ (by omega), hm.2.2 _ (by omega), hs p q hp hq h0 x hx⟩
    · exact z

set_option maxHeartbeats 4000000 in
set_option maxRecDepth 100000 in
/-- model: which states can be told apart -/
theorem m_Mreckon (l : Launch) (D : va_G) (d : Nat → ClassId) (h : Nat → Nat) (S : Nat → Nat → Nat) {n : Nat} {g : Nat → Nat} {F : Nat → Bool} (hB : sd_MB n g F S) (sz : Nat) : Met l yX1_reckon (ws_ yX1_reckon cX1_reckon 4 none) (sd_rm 0) (va_Pc [.ref (h 0)] (sd_P D d (sd_wM h d S) sz)) (sd_Qv D (fun u : Nat → Nat → Nat => (∀ c, c ≠ 3 → u c = S c) ∧ ∀ p q, p < n → q < n → u 3 (16 * p + q) = if dm_b (dm_eq g F p q) = true then 0 else 1) (fun u => sd_wM h d u) (va_A (sd_wM h d S) sz)) 0 0 (va_A (sd_wM h d S) sz) := by
  refine sd_ofW (Qc := sd_Qv D (fun u : Nat → Nat → Nat => (∀ c, c ≠ 3 → u c = S c) ∧ ∀ p q, p < n → q < n → u 3 (16 * p + q) = if dm_b (dm_eq g F p q) = true then 0 else 1) (fun u => sd_wM h d u)) (own := RX1) (by decide) rfl (Nat.le_of_ble_eq_true rfl) ?_
  intro p e s m below meth c ls A E hr hlk hnm hA hW hl
  have hX_ := E.1.1
  have hB_ := E.1.2.1
  have hown := E.1.2.2.2.1
  have hts := E.1.2.2.2.2
  have hl : lv_has ls 4 [(0, .ref (h 0))] := hl
  obtain ⟨⟨hn1, hn2, hg⟩, e0, e1, e2⟩ := id hB
  refine lv_iconst (v := nI 0) hX_ hB_ dX1_reckon_0 (by decide) ?_
  refine lv_istore_n (lv' := [(1, .int (nI 0)), (0, .ref (h 0))]) hX_ hB_ dX1_reckon_1 rfl hl (by decide) rfl (fun ls hl => ?_)
  refine sd_loop2 (fun nn (i : Nat) (T : Nat → Nat → Nat) H locs ls => nn = 256 - i ∧ (i ≤ 256) ∧ (∀ c, c ≠ 3 → T c = S c) ∧ (∀ j, j < i → T 3 j = if j / 16 < n ∧ j % 16 < n ∧ F (j / 16) ≠ F (j % 16) then 1 else 0) ∧ sd_W D A s.heap (sd_wM h d T) H locs ∧ lv_has ls 4 [(0, .ref (h 0)), (1, .int (nI i))]) (fun nn i T H locs ls hI ih => ?_) _ 0 S _ _ _ ⟨rfl, Nat.zero_le _, (fun _ _ => rfl), (fun j hj => absurd hj (Nat.not_lt_zero j)), hW, lv_sub hl [1, 0] rfl⟩
  · skip
    obtain ⟨rfl, hi, tc, t3, hW, hl⟩ := hI
    have t0 : T 0 2 = n := by rw [tc 0 (by decide)]; exact e0
    have t2 : ∀ p, p < 16 → T 2 p = if F p = true then 1 else 0 := by rw [tc 2 (by decide)]; exact e2
    refine lv_iload_n hX_ hB_ dX1_reckon_2 rfl (lv_at hl 1 rfl) ?_
    refine lv_sipush (v := nI 256) hX_ hB_ dX1_reckon_3 (by decide) ?_
    refine sd_icmp_ge (tgt := 69) hX_ hB_ dX1_reckon_6 (by decide) (by omega) (by omega) (fun c1 => ?_) (fun c1 => ?_)
    · skip
      have h256 : i = 256 := by omega
      subst h256
      have hap : sd_ap n g F S T := by
        refine ⟨tc, fun j hj => ?_, fun p q hp hq hv => ?_, fun p q hp hq hv => ?_⟩
        · rw [t3 j hj]; split <;> omega
        · rw [t3 _ (by omega), show (16 * p + q) / 16 = p by omega, show (16 * p + q) % 16 = q by omega] at hv
          by_cases c : p < n ∧ q < n ∧ F p ≠ F q
          · exact ⟨0, dm_df_0.mpr c.2.2⟩
          · rw [if_neg c] at hv; omega
        · rw [t3 _ (by omega), show (16 * p + q) / 16 = p by omega, show (16 * p + q) % 16 = q by omega, if_pos ⟨hp, hq, hv⟩]
      refine lv_iconst (v := nI 1) hX_ hB_ dX1_reckon_69 (by decide) ?_
      refine lv_istore_n (lv' := [(1, .int (nI 1)), (0, .ref (h 0))]) hX_ hB_ dX1_reckon_70 rfl hl (by decide) rfl (fun ls hl => ?_)
      refine sd_loop2 (fun nn (b : Nat) (T : Nat → Nat → Nat) H locs ls => nn = 2 * sd_az T + b ∧ (b < 2) ∧ (sd_ap n g F S T) ∧ (b = 0 → ∀ p q, p < n → q < n → sd_as g T p q) ∧ sd_W D A s.heap (sd_wM h d T) H locs ∧ lv_has ls 4 [(0, .ref (h 0)), (1, .int (nI b))]) (fun nn b T H locs ls hI ih1 => ?_) _ 1 T _ _ _ ⟨rfl, by omega, hap, (fun z => by omega), hW, lv_sub hl [1, 0] rfl⟩
      · skip
        obtain ⟨rfl, hb2, hap, hst, hW, hl⟩ := hI
        refine lv_iload_n hX_ hB_ dX1_reckon_71 rfl (lv_at hl 1 rfl) ?_
        refine sd_if_eq (tgt := 200) hX_ hB_ dX1_reckon_72 (by decide) (by omega) (fun c5 => ?_) (fun c5 => ?_)
        · skip
          exact sd_vret E hr hlk T hW ⟨hap.1, fun p q hp hq => sd_ap_end hB.1 hap (hst c5) hp hq⟩ dX1_reckon_200
        · skip
          obtain ⟨Z, hZ⟩ : ∃ Z, Z = sd_az T := ⟨_, rfl⟩
          refine lv_iconst (v := nI 0) hX_ hB_ dX1_reckon_75 (by decide) ?_
          refine lv_istore_n (lv' := [(1, .int (nI 0)), (0, .ref (h 0))]) hX_ hB_ dX1_reckon_76 rfl hl (by decide) rfl (fun ls hl => ?_)
          refine lv_iconst (v := nI 0) hX_ hB_ dX1_reckon_77 (by decide) ?_
          refine lv_istore_n (lv' := [(2, .int (nI 0)), (1, .int (nI 0)), (0, .ref (h 0))]) hX_ hB_ dX1_reckon_78 rfl hl (by decide) rfl (fun ls hl => ?_)
          refine sd_loop3 (fun nn (x : Nat) (b : Nat) (T : Nat → Nat → Nat) H locs ls => nn = 16 - x ∧ (x ≤ n) ∧ (b < 2) ∧ (sd_ap n g F S T) ∧ (sd_az T ≤ Z) ∧ (b = 1 → sd_az T < Z) ∧ (b = 0 → ∀ p q, p < x → q < n → sd_as g T p q) ∧ sd_W D A s.heap (sd_wM h d T) H locs ∧ lv_has ls 4 [(0, .ref (h 0)), (1, .int (nI b)), (2, .int (nI x))]) (fun nn x b T H locs ls hI ih2 => ?_) _ 0 0 T _ _ _ ⟨rfl, Nat.zero_le _, by omega, hap, Nat.le_of_eq hZ.symm, (fun z => by omega), (fun _ p q hp => absurd hp (Nat.not_lt_zero p)), hW, lv_sub hl [2, 1, 0] rfl⟩
          · skip
            obtain ⟨rfl, hx, hb2, hap, hz1, hz2, hst, hW, hl⟩ := hI
            have t0 : T 0 2 = n := by rw [hap.1 0 (by decide)]; exact e0
            refine lv_iload_n hX_ hB_ dX1_reckon_79 rfl (lv_at hl 2 rfl) ?_
            refine lv_aload_n hX_ hB_ dX1_reckon_80 rfl (lv_at hl 0 rfl) ?_
            refine sd_getM E hW 2 (v := .int (nI (T 0 2))) (by decide) rfl q174 dX1_reckon_81 ?_
            refine sd_icmp_ge (tgt := 197) hX_ hB_ dX1_reckon_84 (by decide) (by omega) (by omega) (fun c6 => ?_) (fun c6 => ?_)
            · skip
              refine lv_goto (tgt := 71) hX_ hB_ dX1_reckon_197 (by decide) ?_
              have hxn : x = n := by omega
              subst hxn
              exact ih1 _ b T H locs ls (by rcases (show b = 0 ∨ b = 1 by omega) with z | z; omega; have := hz2 z; omega) ⟨rfl, hb2, hap, hst, hW, lv_sub hl [0, 1] rfl⟩
            · skip
              refine lv_iconst (v := nI 0) hX_ hB_ dX1_reckon_87 (by decide) ?_
              refine lv_istore_n (lv' := [(3, .int (nI 0)), (0, .ref (h 0)), (1, .int (nI b)), (2, .int (nI x))]) hX_ hB_ dX1_reckon_88 rfl hl (by decide) rfl (fun ls hl => ?_)
              refine sd_loop3 (fun nn (y : Nat) (b : Nat) (T : Nat → Nat → Nat) H locs ls => nn = 16 - y ∧ (y ≤ n) ∧ (b < 2) ∧ (sd_ap n g F S T) ∧ (sd_az T ≤ Z) ∧ (b = 1 → sd_az T < Z) ∧ (b = 0 → (∀ p q, p < x → q < n → sd_as g T p q) ∧ ∀ q, q < y → sd_as g T x q) ∧ sd_W D A s.heap (sd_wM h d T) H locs ∧ lv_has ls 4 [(0, .ref (h 0)), (1, .int (nI b)), (2, .int (nI x)), (3, .int (nI y))]) (fun nn y b T H locs ls hI ih => ?_) _ 0 b T _ _ _ ⟨rfl, Nat.zero_le _, hb2, hap, hz1, hz2, (fun z => ⟨hst z, fun q hq => absurd hq (Nat.not_lt_zero q)⟩), hW, lv_sub hl [1, 2, 3, 0] rfl⟩
              · skip
                obtain ⟨rfl, hy, hb2, hap, hz1, hz2, hst, hW, hl⟩ := hI
                have t0 : T 0 2 = n := by rw [hap.1 0 (by decide)]; exact e0
                have t1 : ∀ j, j < 32 → T 1 j = g j := by rw [hap.1 1 (by decide)]; exact e1
                refine lv_iload_n hX_ hB_ dX1_reckon_89 rfl (lv_at hl 3 rfl) ?_
                refine lv_aload_n hX_ hB_ dX1_reckon_90 rfl (lv_at hl 0 rfl) ?_
                refine sd_getM E hW 2 (v := .int (nI (T 0 2))) (by decide) rfl q174 dX1_reckon_91 ?_
                refine sd_icmp_ge (tgt := 191) hX_ hB_ dX1_reckon_94 (by decide) (by omega) (by omega) (fun c7 => ?_) (fun c7 => ?_)
                · skip
                  refine sd_iinc (lv' := [(2, .int (nI (x + 1))), (0, .ref (h 0)), (1, .int (nI b)), (3, .int (nI y))]) hX_ hB_ dX1_reckon_191 hl (k := 2) rfl (by decide) rfl (fun ls hl => ?_)
                  refine lv_goto (tgt := 79) hX_ hB_ dX1_reckon_194 (by decide) ?_
                  have hyn : y = n := by omega
                  subst hyn
                  exact ih2 _ (x + 1) b T H locs ls (by omega) ⟨rfl, by omega, hb2, hap, hz1, hz2, (fun z p q hp hq => by rcases (show p < x ∨ p = x by omega) with w | w; exact (hst z).1 p q w hq; rw [w]; exact (hst z).2 q hq), hW, lv_sub hl [1, 2, 0] rfl⟩
                · skip
                  have hax := hap.2.1 (16 * x + y) (by omega)
                  have g1 := hg (2 * x) (by omega)
                  have g2 := hg (2 * y) (by omega)
                  have g3 := hg (2 * x + 1) (by omega)
                  have g4 := hg (2 * y + 1) (by omega)
                  have ha0 := hap.2.1 (16 * g (2 * x) + g (2 * y)) (by omega)
                  have ha1 := hap.2.1 (16 * g (2 * x + 1) + g (2 * y + 1)) (by omega)
                  refine lv_aload_n hX_ hB_ dX1_reckon_97 rfl (lv_at hl 0 rfl) ?_
                  refine sd_getM E hW 3 (v := .ref (h 3)) (by decide) rfl q175 dX1_reckon_98 ?_
                  refine lv_bipush (v := nI 16) hX_ hB_ dX1_reckon_101 (by decide) ?_
                  refine lv_iload_n hX_ hB_ dX1_reckon_103 rfl (lv_at hl 2 rfl) ?_
                  refine sd_imul hX_ hB_ dX1_reckon_104 ?_
                  refine lv_iload_n hX_ hB_ dX1_reckon_105 rfl (lv_at hl 3 rfl) ?_
                  refine sd_iadd hX_ hB_ dX1_reckon_106 ?_
                  refine sd_zald (f := T 3) E hW 3 rfl (by omega) (by decide) dX1_reckon_107 ?_
                  refine sd_if_ne (tgt := 185) hX_ hB_ dX1_reckon_108 (by decide) (by omega) (fun c8 => ?_) (fun c8 => ?_)
                  · skip
                    refine sd_iinc (lv' := [(3, .int (nI (y + 1))), (0, .ref (h 0)), (1, .int (nI b)), (2, .int (nI x))]) hX_ hB_ dX1_reckon_185 hl (k := 3) rfl (by decide) rfl (fun ls hl => ?_)
                    refine lv_goto (tgt := 89) hX_ hB_ dX1_reckon_188 (by decide) ?_
                    exact ih _ (y + 1) b T H locs ls (by omega) ⟨rfl, by omega, hb2, hap, hz1, hz2, (fun z => ⟨(hst z).1, fun q hq => by rcases (show q < y ∨ q = y by omega) with w | w; exact (hst z).2 q w; rw [w]; exact (fun z0 => absurd z0 c8)⟩), hW, lv_sub hl [1, 2, 3, 0] rfl⟩
                  · skip
                    refine sd_cut (fun _ : Unit => ∃ z, z < 2 ∧ T 3 (16 * g (2 * x + z) + g (2 * y + z)) = 1) (fun _ => F0 m 171 ls []) (fun _ hz => ?_) (fun J => ?_)
                    · skip
                      obtain ⟨z, hz, hz1v⟩ := hz
                      have hap2 := sd_ap_put hB.1 hap (p := x) (q := y) (by omega) (by omega) hz hz1v
                      have hlt := sd_az_put (T := T) (k := 16 * x + y) (by omega) c8
                      refine lv_aload_n hX_ hB_ dX1_reckon_171 rfl (lv_at hl 0 rfl) ?_
                      refine sd_getM E hW 3 (v := .ref (h 3)) (by decide) rfl q175 dX1_reckon_172 ?_
                      refine lv_bipush (v := nI 16) hX_ hB_ dX1_reckon_175 (by decide) ?_
                      refine lv_iload_n hX_ hB_ dX1_reckon_177 rfl (lv_at hl 2 rfl) ?_
                      refine sd_imul hX_ hB_ dX1_reckon_178 ?_
                      refine lv_iload_n hX_ hB_ dX1_reckon_179 rfl (lv_at hl 3 rfl) ?_
                      refine sd_iadd hX_ hB_ dX1_reckon_180 ?_
                      refine lv_iconst (v := nI 1) hX_ hB_ dX1_reckon_181 (by decide) ?_
                      refine sd_zastM E hW 3 (by decide) (by omega) (show 16 * x + y < 256 by omega) dX1_reckon_182 (fun H locs hW => ?_)
                      refine lv_iconst (v := nI 1) hX_ hB_ dX1_reckon_183 (by decide) ?_
                      refine lv_istore_n (lv' := [(1, .int (nI 1)), (0, .ref (h 0)), (2, .int (nI x)), (3, .int (nI y))]) hX_ hB_ dX1_reckon_184 rfl hl (by decide) rfl (fun ls hl => ?_)
                      refine sd_iinc (lv' := [(3, .int (nI (y + 1))), (1, .int (nI 1)), (0, .ref (h 0)), (2, .int (nI x))]) hX_ hB_ dX1_reckon_185 hl (k := 3) rfl (by decide) rfl (fun ls hl => ?_)
                      refine lv_goto (tgt := 89) hX_ hB_ dX1_reckon_188 (by decide) ?_
                      exact ih _ (y + 1) 1 (sd_up T 3 (16 * x + y) 1) H locs ls (by omega) ⟨rfl, by omega, by omega, hap2, by omega, (fun _ => by omega), (fun z => by omega), hW, lv_sub hl [2, 1, 3, 0] rfl⟩
                    · skip
                      refine lv_aload_n hX_ hB_ dX1_reckon_111 rfl (lv_at hl 0 rfl) ?_
                      refine sd_getM E hW 3 (v := .ref (h 3)) (by decide) rfl q175 dX1_reckon_112 ?_
                      refine lv_bipush (v := nI 16) hX_ hB_ dX1_reckon_115 (by decide) ?_
                      refine lv_aload_n hX_ hB_ dX1_reckon_117 rfl (lv_at hl 0 rfl) ?_
                      refine sd_getM E hW 0 (v := .ref (h 1)) (by decide) rfl q172 dX1_reckon_118 ?_
                      refine lv_iconst (v := nI 2) hX_ hB_ dX1_reckon_121 (by decide) ?_
                      refine lv_iload_n hX_ hB_ dX1_reckon_122 rfl (lv_at hl 2 rfl) ?_
                      refine sd_imul hX_ hB_ dX1_reckon_123 ?_
                      refine sd_ald (f := T 1) E hW 1 rfl (by omega) (by decide) dX1_reckon_124 ?_
                      rw [t1 _ (by omega)]
                      refine sd_imul hX_ hB_ dX1_reckon_125 ?_
                      refine lv_aload_n hX_ hB_ dX1_reckon_126 rfl (lv_at hl 0 rfl) ?_
                      refine sd_getM E hW 0 (v := .ref (h 1)) (by decide) rfl q172 dX1_reckon_127 ?_
                      refine lv_iconst (v := nI 2) hX_ hB_ dX1_reckon_130 (by decide) ?_
                      refine lv_iload_n hX_ hB_ dX1_reckon_131 rfl (lv_at hl 3 rfl) ?_
                      refine sd_imul hX_ hB_ dX1_reckon_132 ?_
                      refine sd_ald (f := T 1) E hW 1 rfl (by omega) (by decide) dX1_reckon_133 ?_
                      rw [t1 _ (by omega)]
                      refine sd_iadd hX_ hB_ dX1_reckon_134 ?_
                      refine sd_zald (f := T 3) E hW 3 rfl (by omega) (by decide) dX1_reckon_135 ?_
                      refine sd_if_ne (tgt := 171) hX_ hB_ dX1_reckon_136 (by decide) (by omega) (fun c9 => ?_) (fun c9 => ?_)
                      · skip
                        exact J () ⟨0, by decide, by rw [Nat.add_zero, Nat.add_zero]; omega⟩
                      · skip
                        refine lv_aload_n hX_ hB_ dX1_reckon_139 rfl (lv_at hl 0 rfl) ?_
                        refine sd_getM E hW 3 (v := .ref (h 3)) (by decide) rfl q175 dX1_reckon_140 ?_
                        refine lv_bipush (v := nI 16) hX_ hB_ dX1_reckon_143 (by decide) ?_
                        refine lv_aload_n hX_ hB_ dX1_reckon_145 rfl (lv_at hl 0 rfl) ?_
                        refine sd_getM E hW 0 (v := .ref (h 1)) (by decide) rfl q172 dX1_reckon_146 ?_
                        refine lv_iconst (v := nI 2) hX_ hB_ dX1_reckon_149 (by decide) ?_
                        refine lv_iload_n hX_ hB_ dX1_reckon_150 rfl (lv_at hl 2 rfl) ?_
                        refine sd_imul hX_ hB_ dX1_reckon_151 ?_
                        refine lv_iconst (v := nI 1) hX_ hB_ dX1_reckon_152 (by decide) ?_
                        refine sd_iadd hX_ hB_ dX1_reckon_153 ?_
                        refine sd_ald (f := T 1) E hW 1 rfl (by omega) (by decide) dX1_reckon_154 ?_
                        rw [t1 _ (by omega)]
                        refine sd_imul hX_ hB_ dX1_reckon_155 ?_
                        refine lv_aload_n hX_ hB_ dX1_reckon_156 rfl (lv_at hl 0 rfl) ?_
                        refine sd_getM E hW 0 (v := .ref (h 1)) (by decide) rfl q172 dX1_reckon_157 ?_
                        refine lv_iconst (v := nI 2) hX_ hB_ dX1_reckon_160 (by decide) ?_
                        refine lv_iload_n hX_ hB_ dX1_reckon_161 rfl (lv_at hl 3 rfl) ?_
                        refine sd_imul hX_ hB_ dX1_reckon_162 ?_
                        refine lv_iconst (v := nI 1) hX_ hB_ dX1_reckon_163 (by decide) ?_
                        refine sd_iadd hX_ hB_ dX1_reckon_164 ?_
                        refine sd_ald (f := T 1) E hW 1 rfl (by omega) (by decide) dX1_reckon_165 ?_
                        rw [t1 _ (by omega)]
                        refine sd_iadd hX_ hB_ dX1_reckon_166 ?_
                        refine sd_zald (f := T 3) E hW 3 rfl (by omega) (by decide) dX1_reckon_167 ?_
                        refine sd_if_eq (tgt := 185) hX_ hB_ dX1_reckon_168 (by decide) (by omega) (fun c10 => ?_) (fun c10 => ?_)
                        · skip
                          refine sd_iinc (lv' := [(3, .int (nI (y + 1))), (0, .ref (h 0)), (1, .int (nI b)), (2, .int (nI x))]) hX_ hB_ dX1_reckon_185 hl (k := 3) rfl (by decide) rfl (fun ls hl => ?_)
                          refine lv_goto (tgt := 89) hX_ hB_ dX1_reckon_188 (by decide) ?_
                          exact ih _ (y + 1) b T H locs ls (by omega) ⟨rfl, by omega, hb2, hap, hz1, hz2, (fun z => ⟨(hst z).1, fun q hq => by rcases (show q < y ∨ q = y by omega) with w | w; exact (hst z).2 q w; rw [w]; exact (fun _ w hw => by rcases (show w = 0 ∨ w = 1 by omega) with rfl | rfl; exact c9; exact c10)⟩), hW, lv_sub hl [1, 2, 3, 0] rfl⟩
                        · skip
                          exact J () ⟨1, by decide, by omega⟩
    · skip
      refine lv_aload_n hX_ hB_ dX1_reckon_9 rfl (lv_at hl 0 rfl) ?_
      refine sd_getM E hW 3 (v := .ref (h 3)) (by decide) rfl q175 dX1_reckon_10 ?_
      refine lv_iload_n hX_ hB_ dX1_reckon_13 rfl (lv_at hl 1 rfl) ?_
      refine sd_cut (fun z : Nat => z = if i / 16 < n ∧ i % 16 < n ∧ F (i / 16) ≠ F (i % 16) then 1 else 0) (fun z => F0 m 62 ls [.int (nI z), .int (nI i), .ref (h 3)]) (fun z hz => ?_) (fun J => ?_)
      · skip
        have hz2 : z < 2 := by rw [hz]; split <;> omega
        refine sd_zastM E hW 3 (by decide) hz2 (show i < 256 by omega) dX1_reckon_62 (fun H locs hW => ?_)
        refine sd_iinc (lv' := [(1, .int (nI (i + 1))), (0, .ref (h 0))]) hX_ hB_ dX1_reckon_63 hl (k := 1) rfl (by decide) rfl (fun ls hl => ?_)
        refine lv_goto (tgt := 2) hX_ hB_ dX1_reckon_66 (by decide) ?_
        exact ih _ (i + 1) (sd_up T 3 i z) H locs ls (by omega) ⟨rfl, by omega, (fun c hc => by rw [sd_up_c _ _ _ hc]; exact tc c hc), (fun j hj => by rw [sd_up_at]; split; (next e => rw [e]; exact hz); exact t3 j (by omega)), hW, lv_sub hl [1, 0] rfl⟩
      · skip
        refine lv_iload_n hX_ hB_ dX1_reckon_14 rfl (lv_at hl 1 rfl) ?_
        refine lv_bipush (v := nI 16) hX_ hB_ dX1_reckon_15 (by decide) ?_
        refine sd_idiv hX_ hB_ dX1_reckon_17 (by omega) (by omega) (by omega) ?_
        refine lv_aload_n hX_ hB_ dX1_reckon_18 rfl (lv_at hl 0 rfl) ?_
        refine sd_getM E hW 2 (v := .int (nI (T 0 2))) (by decide) rfl q174 dX1_reckon_19 ?_
        refine sd_icmp_ge (tgt := 61) hX_ hB_ dX1_reckon_22 (by decide) (by omega) (by omega) (fun c2 => ?_) (fun c2 => ?_)
        · skip
          refine lv_iconst (v := nI 0) hX_ hB_ dX1_reckon_61 (by decide) ?_
          exact J 0 (by rw [if_neg (by omega)])
        · skip
          refine lv_iload_n hX_ hB_ dX1_reckon_25 rfl (lv_at hl 1 rfl) ?_
          refine lv_bipush (v := nI 16) hX_ hB_ dX1_reckon_26 (by decide) ?_
          refine sd_irem hX_ hB_ dX1_reckon_28 (by omega) (by omega) (by omega) ?_
          refine lv_aload_n hX_ hB_ dX1_reckon_29 rfl (lv_at hl 0 rfl) ?_
          refine sd_getM E hW 2 (v := .int (nI (T 0 2))) (by decide) rfl q174 dX1_reckon_30 ?_
          refine sd_icmp_ge (tgt := 61) hX_ hB_ dX1_reckon_33 (by decide) (by omega) (by omega) (fun c3 => ?_) (fun c3 => ?_)
          · skip
            refine lv_iconst (v := nI 0) hX_ hB_ dX1_reckon_61 (by decide) ?_
            exact J 0 (by rw [if_neg (by omega)])
          · skip
            refine lv_aload_n hX_ hB_ dX1_reckon_36 rfl (lv_at hl 0 rfl) ?_
            refine sd_getM E hW 1 (v := .ref (h 2)) (by decide) rfl q173 dX1_reckon_37 ?_
            refine lv_iload_n hX_ hB_ dX1_reckon_40 rfl (lv_at hl 1 rfl) ?_
            refine lv_bipush (v := nI 16) hX_ hB_ dX1_reckon_41 (by decide) ?_
            refine sd_idiv hX_ hB_ dX1_reckon_43 (by omega) (by omega) (by omega) ?_
            refine sd_zald (f := T 2) E hW 2 rfl (by omega) (by decide) dX1_reckon_44 ?_
            rw [t2 _ (by omega)]
            refine lv_aload_n hX_ hB_ dX1_reckon_45 rfl (lv_at hl 0 rfl) ?_
            refine sd_getM E hW 1 (v := .ref (h 2)) (by decide) rfl q173 dX1_reckon_46 ?_
            refine lv_iload_n hX_ hB_ dX1_reckon_49 rfl (lv_at hl 1 rfl) ?_
            refine lv_bipush (v := nI 16) hX_ hB_ dX1_reckon_50 (by decide) ?_
            refine sd_irem hX_ hB_ dX1_reckon_52 (by omega) (by omega) (by omega) ?_
            refine sd_zald (f := T 2) E hW 2 rfl (by omega) (by decide) dX1_reckon_53 ?_
            rw [t2 _ (by omega)]
            refine sd_icmp_eq (tgt := 61) hX_ hB_ dX1_reckon_54 (by decide) (by split <;> decide) (by split <;> decide) (fun c4 => ?_) (fun c4 => ?_)
            · skip
              refine lv_iconst (v := nI 0) hX_ hB_ dX1_reckon_61 (by decide) ?_
              refine J 0 ?_
              rw [if_neg]
              rintro ⟨-, -, hne⟩
              apply hne
              revert c4
              cases F (i / 16) <;> cases F (i % 16) <;> simp
            · skip
              refine lv_iconst (v := nI 1) hX_ hB_ dX1_reckon_57 (by decide) ?_
              refine lv_goto (tgt := 62) hX_ hB_ dX1_reckon_58 (by decide) ?_
              refine J 1 ?_
              rw [if_pos]
              refine ⟨by omega, by omega, fun hne => c4 ?_⟩
              rw [hne]
end
section
theorem sd_MB_of {n : Nat} {g : Nat → Nat} {F : Nat → Bool} {S u : Nat → Nat → Nat} (hB : sd_MB n g F S) (h : ∀ c, c ≤ 2 → u c = S c) : sd_MB n g F u := by
  obtain ⟨a, b, c, d⟩ := hB
  refine ⟨a, ?_, ?_, ?_⟩
  · rw [h 0 (by decide)]; exact b
  · rw [h 1 (by decide)]; exact c
  · rw [h 2 (by decide)]; exact d
theorem sd_tb1 {a i : Nat} : a / 2 ^ i % 2 = 1 ↔ a.testBit i = true := by rw [Nat.testBit_eq_decide_div_mod_eq, decide_eq_true_eq]
theorem sd_tb0 {a i : Nat} : a / 2 ^ i % 2 = 0 ↔ a.testBit i = false := by
  rw [Nat.testBit_eq_decide_div_mod_eq, decide_eq_false_iff_not]
  generalize a / 2 ^ i = z
  omega
theorem sd_or_bit (a k j : Nat) : (a ||| 2 ^ k).testBit j = (a.testBit j || decide (k = j)) := by rw [Nat.testBit_or, Nat.testBit_two_pow]
theorem sd_bit_lt {a n i : Nat} (ha : a < 2 ^ n) (h : a.testBit i = true) : i < n := by
  rcases Nat.lt_or_ge i n with z | z
  · exact z
  · rw [Nat.testBit_lt_two_pow (Nat.lt_of_lt_of_le ha (Nat.pow_le_pow_right (by decide) z))] at h
    cases h
theorem dm_re_rf (g : Nat → Nat) (s : Nat) : dm_re g s s := ⟨1, Nat.le_refl 1, dm_run_1 g s⟩
theorem dm_re_st {g : Nat → Nat} {s p : Nat} (h : dm_re g s p) {x : Nat} (hx : x < 2) : dm_re g s (g (2 * p + x)) := by
  obtain ⟨c, hc, rfl⟩ := h
  exact ⟨2 * c + x, by omega, dm_run_s g s hc hx⟩
theorem dm_re_in {g : Nat → Nat} {s p : Nat} (R : Nat → Prop) (h0 : R s) (hs : ∀ p x, R p → x < 2 → R (g (2 * p + x))) (h : dm_re g s p) : R p := by
  obtain ⟨c, hc, rfl⟩ := h
  induction c using Nat.strongRecOn with
  | _ c ih =>
    by_cases h1 : c = 1
    · rw [h1, dm_run_1]; exact h0
    · have h2 := ih (c / 2) (by omega) (by omega)
      have h3 := hs _ (c % 2) h2 (Nat.mod_lt _ (by decide))
      rw [← dm_run_s g s (by omega) (Nat.mod_lt _ (by decide)), show 2 * (c / 2) + c % 2 = c by omega] at h3
      exact h3
theorem dm_cnt_s (P : Nat → Bool) (n : Nat) : dm_cnt P (n + 1) = dm_cnt P n + (if P n = true then 1 else 0) := rfl

set_option maxHeartbeats 4000000 in
set_option maxRecDepth 100000 in
/-- model: same -/
theorem m_Msame (l : Launch) (D : va_G) (d : Nat → ClassId) (h : Nat → Nat) (S : Nat → Nat → Nat) {n : Nat} {g : Nat → Nat} {F : Nat → Bool} (hB : sd_MB n g F S) {v a : Nat} (sz : Nat) : Met l yX1_same (ws_ yX1_same cX1_same 3 (some .boolean)) (sd_rm 1) (va_Pc [.ref (h 0), .int (nI v), .int (nI a)] (sd_P D d (sd_wM h d S) sz)) (sd_Qi D (fun (r : Int32) (u : Nat → Nat → Nat) => r = nI (if dm_b (dm_eq g F (v % 2147483648 % n) (a % 2147483648 % n)) = true then 1 else 0) ∧ sd_MB n g F u) (fun u => sd_wM h d u) (va_A (sd_wM h d S) sz)) 0 0 (va_A (sd_wM h d S) sz) := by
  refine sd_ofW (Qc := sd_Qi D (fun (r : Int32) (u : Nat → Nat → Nat) => r = nI (if dm_b (dm_eq g F (v % 2147483648 % n) (a % 2147483648 % n)) = true then 1 else 0) ∧ sd_MB n g F u) (fun u => sd_wM h d u)) (own := RX1) (by decide) rfl (Nat.le_of_ble_eq_true rfl) ?_
  intro p e s m below meth c ls A E hr hlk hnm hA hW hl
  have hX_ := E.1.1
  have hB_ := E.1.2.1
  have hown := E.1.2.2.2.1
  have hts := E.1.2.2.2.2
  have hl : lv_has ls 3 [(0, .ref (h 0)), (1, .int (nI v)), (2, .int (nI a))] := hl
  obtain ⟨⟨hn1, hn2, hg⟩, e0, e1, e2⟩ := id hB
  refine lv_aload_n hX_ hB_ dX1_same_0 rfl (lv_at hl 0 rfl) ?_
  refine sd_callVv (y := yX1_reckon) (by_ := cX1_reckon) E hW hA [] rfl rfl (m_Mreckon l D d h S hB _) (cwV 0 hts (lw_V q219 q221 qs11 q15 q222) rfl rfl rfl (by decide +kernel) ⟨Nat.le_of_ble_eq_true rfl, Nat.le_of_ble_eq_true rfl⟩) rfl (fun _ => rfl) hl.1 rfl (Nat.le_of_ble_eq_true rfl) dX1_same_1 ⟨Nat.zero_le _, Nat.zero_le _⟩ (fun u H locs hw hW => ?_)
  obtain ⟨uc, ua⟩ := hw
  have hBu := sd_MB_of hB (fun c hc => uc c (by omega))
  have k0 : u 0 2 = n := hBu.2.1
  have k1 : 1 ≤ u 0 2 := by omega
  have k2 : u 0 2 ≤ 16 := by omega
  refine lv_aload_n hX_ hB_ dX1_same_4 rfl (lv_at hl 0 rfl) ?_
  refine sd_getM E hW 3 (v := .ref (h 3)) (by decide) rfl q175 dX1_same_5 ?_
  refine lv_bipush (v := nI 16) hX_ hB_ dX1_same_8 (by decide) ?_
  refine lv_aload_n hX_ hB_ dX1_same_10 rfl (lv_at hl 0 rfl) ?_
  refine lv_iload_n hX_ hB_ dX1_same_11 rfl (lv_at hl 1 rfl) ?_
  refine sd_callVi (y := yX1_at) (by_ := cX1_at) E hW hA [.int (nI v)] rfl rfl (m_at l D d h u (v := v) k1 k2 _) (cwV 1 hts (lw_V q202 q204 qs9 q15 q205) rfl rfl rfl (by decide +kernel) ⟨Nat.le_of_ble_eq_true rfl, Nat.le_of_ble_eq_true rfl⟩) rfl (fun _ => rfl) hl.1 rfl (Nat.le_of_ble_eq_true rfl) dX1_same_12 ⟨Nat.zero_le _, Nat.zero_le _⟩ (fun r x_ H locs hw hW => ?_)
  subst hw
  rw [k0]
  refine sd_imul hX_ hB_ dX1_same_15 ?_
  refine lv_aload_n hX_ hB_ dX1_same_16 rfl (lv_at hl 0 rfl) ?_
  refine lv_iload_n hX_ hB_ dX1_same_17 rfl (lv_at hl 2 rfl) ?_
  refine sd_callVi (y := yX1_at) (by_ := cX1_at) E hW hA [.int (nI a)] rfl rfl (m_at l D d h u (v := a) k1 k2 _) (cwV 1 hts (lw_V q202 q204 qs9 q15 q205) rfl rfl rfl (by decide +kernel) ⟨Nat.le_of_ble_eq_true rfl, Nat.le_of_ble_eq_true rfl⟩) rfl (fun _ => rfl) hl.1 rfl (Nat.le_of_ble_eq_true rfl) dX1_same_18 ⟨Nat.zero_le _, Nat.zero_le _⟩ (fun r x_ H locs hw hW => ?_)
  subst hw
  rw [k0]
  have hv1 : v % 2147483648 % n < n := Nat.mod_lt _ (by omega)
  have hv2 : a % 2147483648 % n < n := Nat.mod_lt _ (by omega)
  refine sd_iadd hX_ hB_ dX1_same_21 ?_
  refine sd_zald (f := u 3) E hW 3 rfl (by omega) (by decide) dX1_same_22 ?_
  rw [ua _ _ hv1 hv2]
  refine sd_if_ne (tgt := 30) hX_ hB_ dX1_same_23 (by decide) (by split <;> decide) (fun c1 => ?_) (fun c1 => ?_)
  · skip
    refine lv_iconst (v := nI 0) hX_ hB_ dX1_same_30 (by decide) ?_
    refine sd_zret (by decide) E hr hlk u hW ⟨?_, hBu⟩ dX1_same_31
    rw [if_neg]
    intro z
    rw [if_pos z] at c1
    exact c1 rfl
  · skip
    refine lv_iconst (v := nI 1) hX_ hB_ dX1_same_26 (by decide) ?_
    refine lv_goto (tgt := 31) hX_ hB_ dX1_same_27 (by decide) ?_
    refine sd_zret (by decide) E hr hlk u hW ⟨?_, hBu⟩ dX1_same_31
    rw [if_pos]
    apply Classical.byContradiction
    intro z
    rw [if_neg z] at c1
    cases c1

set_option maxHeartbeats 4000000 in
set_option maxRecDepth 100000 in
/-- model: kinds -/
theorem m_Mkinds (l : Launch) (D : va_G) (d : Nat → ClassId) (h : Nat → Nat) (S : Nat → Nat → Nat) {n : Nat} {g : Nat → Nat} {F : Nat → Bool} (hB : sd_MB n g F S) (sz : Nat) : Met l yX1_kinds (ws_ yX1_kinds cX1_kinds 5 (some .int)) (sd_rm 1) (va_Pc [.ref (h 0)] (sd_P D d (sd_wM h d S) sz)) (sd_Qi D (fun (r : Int32) (u : Nat → Nat → Nat) => r = nI (dm_cnt (fun p => dm_b (∀ q, q < p → ¬ dm_eq g F p q)) n) ∧ sd_MB n g F u) (fun u => sd_wM h d u) (va_A (sd_wM h d S) sz)) 0 0 (va_A (sd_wM h d S) sz) := by
  refine sd_ofW (Qc := sd_Qi D (fun (r : Int32) (u : Nat → Nat → Nat) => r = nI (dm_cnt (fun p => dm_b (∀ q, q < p → ¬ dm_eq g F p q)) n) ∧ sd_MB n g F u) (fun u => sd_wM h d u)) (own := RX1) (by decide) rfl (Nat.le_of_ble_eq_true rfl) ?_
  intro p e s m below meth c ls A E hr hlk hnm hA hW hl
  have hX_ := E.1.1
  have hB_ := E.1.2.1
  have hown := E.1.2.2.2.1
  have hts := E.1.2.2.2.2
  have hl : lv_has ls 5 [(0, .ref (h 0))] := hl
  obtain ⟨⟨hn1, hn2, hg⟩, e0, e1, e2⟩ := id hB
  refine lv_aload_n hX_ hB_ dX1_kinds_0 rfl (lv_at hl 0 rfl) ?_
  refine sd_callVv (y := yX1_reckon) (by_ := cX1_reckon) E hW hA [] rfl rfl (m_Mreckon l D d h S hB _) (cwV 0 hts (lw_V q219 q221 qs11 q15 q222) rfl rfl rfl (by decide +kernel) ⟨Nat.le_of_ble_eq_true rfl, Nat.le_of_ble_eq_true rfl⟩) rfl (fun _ => rfl) hl.1 rfl (Nat.le_of_ble_eq_true rfl) dX1_kinds_1 ⟨Nat.zero_le _, Nat.zero_le _⟩ (fun u H locs hw hW => ?_)
  obtain ⟨uc, ua⟩ := hw
  have hBu := sd_MB_of hB (fun c hc => uc c (by omega))
  have k0 : u 0 2 = n := hBu.2.1
  have k1 : 1 ≤ u 0 2 := by omega
  have k2 : u 0 2 ≤ 16 := by omega
  refine lv_iconst (v := nI 0) hX_ hB_ dX1_kinds_4 (by decide) ?_
  refine lv_istore_n (lv' := [(1, .int (nI 0)), (0, .ref (h 0))]) hX_ hB_ dX1_kinds_5 rfl hl (by decide) rfl (fun ls hl => ?_)
  refine lv_iconst (v := nI 0) hX_ hB_ dX1_kinds_6 (by decide) ?_
  refine lv_istore_n (lv' := [(2, .int (nI 0)), (1, .int (nI 0)), (0, .ref (h 0))]) hX_ hB_ dX1_kinds_7 rfl hl (by decide) rfl (fun ls hl => ?_)
  refine sd_loop1 (fun nn (x : Nat) H locs ls => nn = 16 - x ∧ (x ≤ n) ∧ sd_W D A s.heap (sd_wM h d u) H locs ∧ lv_has ls 5 [(0, .ref (h 0)), (1, .int (nI (dm_cnt (fun p => dm_b (∀ q, q < p → ¬ dm_eq g F p q)) x))), (2, .int (nI x))]) (fun nn x H locs ls hI ih => ?_) _ 0 _ _ _ ⟨rfl, Nat.zero_le _, hW, lv_sub hl [2, 1, 0] rfl⟩
  · skip
    obtain ⟨rfl, hx, hW, hl⟩ := hI
    refine lv_iload_n hX_ hB_ dX1_kinds_8 rfl (lv_at hl 2 rfl) ?_
    refine lv_aload_n hX_ hB_ dX1_kinds_9 rfl (lv_at hl 0 rfl) ?_
    refine sd_getM E hW 2 (v := .int (nI (u 0 2))) (by decide) rfl q174 dX1_kinds_10 ?_
    refine sd_icmp_ge (tgt := 72) hX_ hB_ dX1_kinds_13 (by decide) (by omega) (by omega) (fun c1 => ?_) (fun c1 => ?_)
    · skip
      refine lv_iload_n hX_ hB_ dX1_kinds_72 rfl (lv_at hl 1 rfl) ?_
      refine sd_iret E hr hlk u hW ⟨?_, hBu⟩ dX1_kinds_73
      rw [show x = n by omega]
    · skip
      refine lv_iconst (v := nI 1) hX_ hB_ dX1_kinds_16 (by decide) ?_
      refine lv_istore_n (lv' := [(3, .int (nI 1)), (0, .ref (h 0)), (1, .int (nI (dm_cnt (fun p => dm_b (∀ q, q < p → ¬ dm_eq g F p q)) x))), (2, .int (nI x))]) hX_ hB_ dX1_kinds_17 rfl hl (by decide) rfl (fun ls hl => ?_)
      refine lv_iconst (v := nI 0) hX_ hB_ dX1_kinds_18 (by decide) ?_
      refine lv_istore (lv' := [(4, .int (nI 0)), (3, .int (nI 1)), (0, .ref (h 0)), (1, .int (nI (dm_cnt (fun p => dm_b (∀ q, q < p → ¬ dm_eq g F p q)) x))), (2, .int (nI x))]) hX_ hB_ dX1_kinds_19 hl (by decide) rfl (fun ls hl => ?_)
      have hcx := dm_cnt_le (fun p => dm_b (∀ q, q < p → ¬ dm_eq g F p q)) x
      refine sd_loop2 (fun nn (y : Nat) (b : Nat) H locs ls => nn = 16 - y ∧ (y ≤ x) ∧ (b = if dm_b (∀ q, q < y → ¬ dm_eq g F x q) = true then 1 else 0) ∧ sd_W D A s.heap (sd_wM h d u) H locs ∧ lv_has ls 5 [(0, .ref (h 0)), (1, .int (nI (dm_cnt (fun p => dm_b (∀ q, q < p → ¬ dm_eq g F p q)) x))), (2, .int (nI x)), (3, .int (nI b)), (4, .int (nI y))]) (fun nn y b H locs ls hI ih2 => ?_) _ 0 1 _ _ _ ⟨rfl, Nat.zero_le _, (by rw [if_pos (dm_b_t.mpr (fun q hq => absurd hq (Nat.not_lt_zero q)))]), hW, lv_sub hl [2, 3, 4, 1, 0] rfl⟩
      · skip
        obtain ⟨rfl, hy, eb, hW, hl⟩ := hI
        have hb2 : b < 2 := by rw [eb]; split <;> omega
        refine lv_iload hX_ hB_ dX1_kinds_21 (lv_at hl 4 rfl) ?_
        refine lv_iload_n hX_ hB_ dX1_kinds_23 rfl (lv_at hl 2 rfl) ?_
        refine sd_icmp_ge (tgt := 58) hX_ hB_ dX1_kinds_24 (by decide) (by omega) (by omega) (fun c2 => ?_) (fun c2 => ?_)
        · skip
          refine lv_iload_n hX_ hB_ dX1_kinds_58 rfl (lv_at hl 3 rfl) ?_
          refine sd_if_eq (tgt := 66) hX_ hB_ dX1_kinds_59 (by decide) (by omega) (fun c3 => ?_) (fun c3 => ?_)
          · skip
            refine sd_iinc (lv' := [(2, .int (nI (x + 1))), (0, .ref (h 0)), (1, .int (nI (dm_cnt (fun p => dm_b (∀ q, q < p → ¬ dm_eq g F p q)) x))), (3, .int (nI b)), (4, .int (nI y))]) hX_ hB_ dX1_kinds_66 hl (k := 2) rfl (by decide) rfl (fun ls hl => ?_)
            refine lv_goto (tgt := 8) hX_ hB_ dX1_kinds_69 (by decide) ?_
            have e : y = x := by omega
            subst e
            have ex : dm_cnt (fun p => dm_b (∀ q, q < p → ¬ dm_eq g F p q)) (y + 1) = dm_cnt (fun p => dm_b (∀ q, q < p → ¬ dm_eq g F p q)) y := by
              rw [dm_cnt_s, if_neg]
              · rfl
              · intro z; rw [if_pos z] at eb; omega
            rw [← ex] at hl
            exact ih _ (y + 1) H locs ls (by omega) ⟨rfl, by omega, hW, lv_sub hl [1, 2, 0] rfl⟩
          · skip
            refine lv_iload_n hX_ hB_ dX1_kinds_62 rfl (lv_at hl 1 rfl) ?_
            refine lv_iconst (v := nI 1) hX_ hB_ dX1_kinds_63 (by decide) ?_
            refine sd_iadd hX_ hB_ dX1_kinds_64 ?_
            refine lv_istore_n (lv' := [(1, .int (nI ((dm_cnt (fun p => dm_b (∀ q, q < p → ¬ dm_eq g F p q)) x) + 1))), (0, .ref (h 0)), (2, .int (nI x)), (3, .int (nI b)), (4, .int (nI y))]) hX_ hB_ dX1_kinds_65 rfl hl (by decide) rfl (fun ls hl => ?_)
            refine sd_iinc (lv' := [(2, .int (nI (x + 1))), (1, .int (nI ((dm_cnt (fun p => dm_b (∀ q, q < p → ¬ dm_eq g F p q)) x) + 1))), (0, .ref (h 0)), (3, .int (nI b)), (4, .int (nI y))]) hX_ hB_ dX1_kinds_66 hl (k := 2) rfl (by decide) rfl (fun ls hl => ?_)
            refine lv_goto (tgt := 8) hX_ hB_ dX1_kinds_69 (by decide) ?_
            have e : y = x := by omega
            subst e
            have ex : dm_cnt (fun p => dm_b (∀ q, q < p → ¬ dm_eq g F p q)) (y + 1) = dm_cnt (fun p => dm_b (∀ q, q < p → ¬ dm_eq g F p q)) y + 1 := by
              rw [dm_cnt_s, if_pos]
              apply Classical.byContradiction
              intro z; rw [if_neg z] at eb; omega
            rw [← ex] at hl
            exact ih _ (y + 1) H locs ls (by omega) ⟨rfl, by omega, hW, lv_sub hl [2, 1, 0] rfl⟩
        · skip
          refine sd_cut (fun z : Nat => z = if dm_b (∀ q, q < y + 1 → ¬ dm_eq g F x q) = true then 1 else 0) (fun z => F0 m 51 ls [.int (nI z)]) (fun z hz => ?_) (fun J => ?_)
          · skip
            refine lv_istore_n (lv' := [(3, .int (nI z)), (0, .ref (h 0)), (1, .int (nI (dm_cnt (fun p => dm_b (∀ q, q < p → ¬ dm_eq g F p q)) x))), (2, .int (nI x)), (4, .int (nI y))]) hX_ hB_ dX1_kinds_51 rfl hl (by decide) rfl (fun ls hl => ?_)
            refine sd_iinc (lv' := [(4, .int (nI (y + 1))), (3, .int (nI z)), (0, .ref (h 0)), (1, .int (nI (dm_cnt (fun p => dm_b (∀ q, q < p → ¬ dm_eq g F p q)) x))), (2, .int (nI x))]) hX_ hB_ dX1_kinds_52 hl (k := 4) rfl (by decide) rfl (fun ls hl => ?_)
            refine lv_goto (tgt := 21) hX_ hB_ dX1_kinds_55 (by decide) ?_
            exact ih2 _ (y + 1) z H locs ls (by omega) ⟨rfl, by omega, hz, hW, lv_sub hl [2, 3, 4, 1, 0] rfl⟩
          · skip
            refine lv_iload_n hX_ hB_ dX1_kinds_27 rfl (lv_at hl 3 rfl) ?_
            refine sd_if_eq (tgt := 50) hX_ hB_ dX1_kinds_28 (by decide) (by omega) (fun c4 => ?_) (fun c4 => ?_)
            · skip
              refine lv_iconst (v := nI 0) hX_ hB_ dX1_kinds_50 (by decide) ?_
              refine J 0 ?_
              rw [if_neg]
              intro z
              rw [if_pos (dm_b_t.mpr fun q hq => dm_b_t.mp z q (by omega))] at eb
              omega
            · skip
              refine lv_aload_n hX_ hB_ dX1_kinds_31 rfl (lv_at hl 0 rfl) ?_
              refine sd_getM E hW 3 (v := .ref (h 3)) (by decide) rfl q175 dX1_kinds_32 ?_
              refine lv_bipush (v := nI 16) hX_ hB_ dX1_kinds_35 (by decide) ?_
              refine lv_iload_n hX_ hB_ dX1_kinds_37 rfl (lv_at hl 2 rfl) ?_
              refine sd_imul hX_ hB_ dX1_kinds_38 ?_
              refine lv_iload hX_ hB_ dX1_kinds_39 (lv_at hl 4 rfl) ?_
              refine sd_iadd hX_ hB_ dX1_kinds_41 ?_
              refine sd_zald (f := u 3) E hW 3 rfl (by omega) (by decide) dX1_kinds_42 ?_
              rw [ua _ _ (by omega) (by omega)]
              have eb1 : ∀ q, q < y → ¬ dm_eq g F x q := by
                apply Classical.byContradiction
                intro z
                rw [if_neg (fun w => z (dm_b_t.mp w))] at eb
                omega
              refine sd_if_eq (tgt := 50) hX_ hB_ dX1_kinds_43 (by decide) (by split <;> decide) (fun c5 => ?_) (fun c5 => ?_)
              · skip
                refine lv_iconst (v := nI 0) hX_ hB_ dX1_kinds_50 (by decide) ?_
                refine J 0 ?_
                rw [if_neg]
                intro z
                rw [if_neg (fun w => dm_b_t.mp z y (by omega) (dm_b_t.mp w))] at c5
                cases c5
              · skip
                refine lv_iconst (v := nI 1) hX_ hB_ dX1_kinds_46 (by decide) ?_
                refine lv_goto (tgt := 51) hX_ hB_ dX1_kinds_47 (by decide) ?_
                refine J 1 ?_
                rw [if_pos]
                refine dm_b_t.mpr fun q hq w => ?_
                rcases (show q < y ∨ q = y by omega) with z | z
                · exact eb1 q z w
                · subst z; rw [if_pos (dm_b_t.mpr w)] at c5; exact c5 rfl
end
section
set_option maxHeartbeats 4000000 in
set_option maxRecDepth 100000 in
/-- model: needed -/
theorem m_Mneeded (l : Launch) (D : va_G) (d : Nat → ClassId) (h : Nat → Nat) (S : Nat → Nat → Nat) {n : Nat} {g : Nat → Nat} {F : Nat → Bool} (hB : sd_MB n g F S) {v : Nat} (sz : Nat) : Met l yX1_needed (ws_ yX1_needed cX1_needed 8 (some .int)) (sd_rm 1) (va_Pc [.ref (h 0), .int (nI v)] (sd_P D d (sd_wM h d S) sz)) (sd_Qi D (fun (r : Int32) (u : Nat → Nat → Nat) => r = nI (dm_cnt (fun p => dm_b (dm_re g (v % 2147483648 % n) p ∧ ∀ q, q < p → dm_re g (v % 2147483648 % n) q → ¬ dm_eq g F p q)) n) ∧ sd_MB n g F u) (fun u => sd_wM h d u) (va_A (sd_wM h d S) sz)) 0 0 (va_A (sd_wM h d S) sz) := by
  refine sd_ofW (Qc := sd_Qi D (fun (r : Int32) (u : Nat → Nat → Nat) => r = nI (dm_cnt (fun p => dm_b (dm_re g (v % 2147483648 % n) p ∧ ∀ q, q < p → dm_re g (v % 2147483648 % n) q → ¬ dm_eq g F p q)) n) ∧ sd_MB n g F u) (fun u => sd_wM h d u)) (own := RX1) (by decide) rfl (Nat.le_of_ble_eq_true rfl) ?_
  intro p e s m below meth c ls A E hr hlk hnm hA hW hl
  have hX_ := E.1.1
  have hB_ := E.1.2.1
  have hown := E.1.2.2.2.1
  have hts := E.1.2.2.2.2
  have hl : lv_has ls 8 [(0, .ref (h 0)), (1, .int (nI v))] := hl
  obtain ⟨⟨hn1, hn2, hg⟩, e0, e1, e2⟩ := id hB
  refine lv_aload_n hX_ hB_ dX1_needed_0 rfl (lv_at hl 0 rfl) ?_
  refine sd_callVv (y := yX1_reckon) (by_ := cX1_reckon) E hW hA [] rfl rfl (m_Mreckon l D d h S hB _) (cwV 0 hts (lw_V q219 q221 qs11 q15 q222) rfl rfl rfl (by decide +kernel) ⟨Nat.le_of_ble_eq_true rfl, Nat.le_of_ble_eq_true rfl⟩) rfl (fun _ => rfl) hl.1 rfl (Nat.le_of_ble_eq_true rfl) dX1_needed_1 ⟨Nat.zero_le _, Nat.zero_le _⟩ (fun u H locs hw hW => ?_)
  obtain ⟨uc, ua⟩ := hw
  have hBu := sd_MB_of hB (fun c hc => uc c (by omega))
  have k0 : u 0 2 = n := hBu.2.1
  have k1 : 1 ≤ u 0 2 := by omega
  have k2 : u 0 2 ≤ 16 := by omega
  have ug : ∀ j, j < 32 → u 1 j = g j := hBu.2.2.1
  refine lv_iconst (v := nI 1) hX_ hB_ dX1_needed_4 (by decide) ?_
  refine lv_istore_n (lv' := [(2, .int (nI 1)), (0, .ref (h 0)), (1, .int (nI v))]) hX_ hB_ dX1_needed_5 rfl hl (by decide) rfl (fun ls hl => ?_)
  refine lv_iconst (v := nI 1) hX_ hB_ dX1_needed_6 (by decide) ?_
  refine lv_aload_n hX_ hB_ dX1_needed_7 rfl (lv_at hl 1 rfl) ?_
  refine lv_iload_n hX_ hB_ dX1_needed_8 rfl (lv_at hl 2 rfl) ?_
  refine sd_callVi (y := yX1_at) (by_ := cX1_at) E hW hA [.int (nI v)] rfl rfl (m_at l D d h u (v := v) k1 k2 _) (cwV 1 hts (lw_V q202 q204 qs9 q15 q205) rfl rfl rfl (by decide +kernel) ⟨Nat.le_of_ble_eq_true rfl, Nat.le_of_ble_eq_true rfl⟩) rfl (fun _ => rfl) hl.1 rfl (Nat.le_of_ble_eq_true rfl) dX1_needed_9 ⟨Nat.zero_le _, Nat.zero_le _⟩ (fun r x_ H locs hw hW => ?_)
  subst hw
  rw [k0]
  obtain ⟨s0, es⟩ : ∃ s0, s0 = v % 2147483648 % n := ⟨_, rfl⟩
  have hs : s0 < n := by rw [es]; exact Nat.mod_lt _ (by omega)
  rw [← es]
  refine sd_ishl1 hX_ hB_ dX1_needed_12 (by omega) ?_
  refine lv_istore_n (lv' := [(3, .int (nI (2 ^ s0))), (2, .int (nI 1)), (0, .ref (h 0)), (1, .int (nI v))]) hX_ hB_ dX1_needed_13 rfl hl (by decide) rfl (fun ls hl => ?_)
  refine sd_loop2 (fun nn (b : Nat) (M : Nat) H locs ls => nn = 2 * (65536 - M) + b ∧ (b < 2) ∧ (M < 2 ^ 16) ∧ (∀ p, M.testBit p = true → p < n ∧ dm_re g s0 p) ∧ (M.testBit s0 = true) ∧ (b = 0 → ∀ p, M.testBit p = true → M.testBit (g (2 * p)) = true ∧ M.testBit (g (2 * p + 1)) = true) ∧ sd_W D A s.heap (sd_wM h d u) H locs ∧ lv_has ls 8 [(0, .ref (h 0)), (2, .int (nI b)), (3, .int (nI M))]) (fun nn b M H locs ls hI ih1 => ?_) _ 1 (2 ^ s0) _ _ _ ⟨rfl, by omega, Nat.pow_lt_pow_right (by decide) (by omega), (fun p hp => by rw [Nat.testBit_two_pow, decide_eq_true_eq] at hp; subst hp; exact ⟨hs, dm_re_rf g s0⟩), (by rw [Nat.testBit_two_pow]; simp), (fun z => by omega), hW, lv_sub hl [2, 1, 0] rfl⟩
  · skip
    obtain ⟨rfl, hb2, hM, hre, hs0, hcl, hW, hl⟩ := hI
    refine lv_iload_n hX_ hB_ dX1_needed_14 rfl (lv_at hl 1 rfl) ?_
    refine sd_if_eq (tgt := 98) hX_ hB_ dX1_needed_15 (by decide) (by omega) (fun c1 => ?_) (fun c1 => ?_)
    · skip
      have hall : ∀ p, M.testBit p = true ↔ dm_re g s0 p := by
        intro p
        refine ⟨fun z => (hre p z).2, fun z => dm_re_in (fun p => M.testBit p = true) hs0 (fun p x hp hx => ?_) z⟩
        rcases (show x = 0 ∨ x = 1 by omega) with rfl | rfl
        · exact (hcl c1 p hp).1
        · exact (hcl c1 p hp).2
      refine lv_iconst (v := nI 0) hX_ hB_ dX1_needed_98 (by decide) ?_
      refine lv_istore (lv' := [(4, .int (nI 0)), (0, .ref (h 0)), (2, .int (nI b)), (3, .int (nI M))]) hX_ hB_ dX1_needed_99 hl (by decide) rfl (fun ls hl => ?_)
      refine lv_iconst (v := nI 0) hX_ hB_ dX1_needed_101 (by decide) ?_
      refine lv_istore (lv' := [(5, .int (nI 0)), (4, .int (nI 0)), (0, .ref (h 0)), (2, .int (nI b)), (3, .int (nI M))]) hX_ hB_ dX1_needed_102 hl (by decide) rfl (fun ls hl => ?_)
      refine sd_loop1 (fun nn (x : Nat) H locs ls => nn = 16 - x ∧ (x ≤ n) ∧ sd_W D A s.heap (sd_wM h d u) H locs ∧ lv_has ls 8 [(0, .ref (h 0)), (3, .int (nI M)), (4, .int (nI (dm_cnt (fun p => dm_b (dm_re g s0 p ∧ ∀ q, q < p → dm_re g s0 q → ¬ dm_eq g F p q)) x))), (5, .int (nI x))]) (fun nn x H locs ls hI ih2 => ?_) _ 0 _ _ _ ⟨rfl, Nat.zero_le _, hW, lv_sub hl [2, 4, 1, 0] rfl⟩
      · skip
        obtain ⟨rfl, hx, hW, hl⟩ := hI
        refine lv_iload hX_ hB_ dX1_needed_104 (lv_at hl 3 rfl) ?_
        refine lv_aload_n hX_ hB_ dX1_needed_106 rfl (lv_at hl 0 rfl) ?_
        refine sd_getM E hW 2 (v := .int (nI (u 0 2))) (by decide) rfl q174 dX1_needed_107 ?_
        refine sd_icmp_ge (tgt := 195) hX_ hB_ dX1_needed_110 (by decide) (by omega) (by omega) (fun c2 => ?_) (fun c2 => ?_)
        · skip
          refine lv_iload hX_ hB_ dX1_needed_195 (lv_at hl 2 rfl) ?_
          refine sd_iret E hr hlk u hW ⟨?_, hBu⟩ dX1_needed_197
          rw [show x = n by omega, es]
        · skip
          have hcx := dm_cnt_le (fun p => dm_b (dm_re g s0 p ∧ ∀ q, q < p → dm_re g s0 q → ¬ dm_eq g F p q)) x
          refine lv_iload_n hX_ hB_ dX1_needed_113 rfl (lv_at hl 1 rfl) ?_
          refine lv_iload hX_ hB_ dX1_needed_114 (lv_at hl 3 rfl) ?_
          refine sd_ishr hX_ hB_ dX1_needed_116 (by omega) (by omega) ?_
          refine lv_iconst (v := nI 1) hX_ hB_ dX1_needed_117 (by decide) ?_
          refine sd_iandE (sd_and1 _) hX_ hB_ dX1_needed_118 ?_
          refine sd_if_eq (tgt := 189) hX_ hB_ dX1_needed_119 (by decide) (by omega) (fun c3 => ?_) (fun c3 => ?_)
          · skip
            refine sd_iinc (lv' := [(5, .int (nI (x + 1))), (0, .ref (h 0)), (3, .int (nI M)), (4, .int (nI (dm_cnt (fun p => dm_b (dm_re g s0 p ∧ ∀ q, q < p → dm_re g s0 q → ¬ dm_eq g F p q)) x)))]) hX_ hB_ dX1_needed_189 hl (k := 3) rfl (by decide) rfl (fun ls hl => ?_)
            refine lv_goto (tgt := 104) hX_ hB_ dX1_needed_192 (by decide) ?_
            have ex : dm_cnt (fun p => dm_b (dm_re g s0 p ∧ ∀ q, q < p → dm_re g s0 q → ¬ dm_eq g F p q)) (x + 1) = dm_cnt (fun p => dm_b (dm_re g s0 p ∧ ∀ q, q < p → dm_re g s0 q → ¬ dm_eq g F p q)) x := by
              rw [dm_cnt_s, if_neg]
              · rfl
              · intro z
                rw [sd_tb0] at c3
                rw [(hall x).mpr (dm_b_t.mp z).1] at c3
                cases c3
            rw [← ex] at hl
            exact ih2 _ (x + 1) H locs ls (by omega) ⟨rfl, by omega, hW, lv_sub hl [1, 2, 3, 0] rfl⟩
          · skip
            have hrx : dm_re g s0 x := (hall x).mp (sd_tb1.mp (by omega))
            refine lv_iconst (v := nI 1) hX_ hB_ dX1_needed_122 (by decide) ?_
            refine lv_istore (lv' := [(6, .int (nI 1)), (0, .ref (h 0)), (3, .int (nI M)), (4, .int (nI (dm_cnt (fun p => dm_b (dm_re g s0 p ∧ ∀ q, q < p → dm_re g s0 q → ¬ dm_eq g F p q)) x))), (5, .int (nI x))]) hX_ hB_ dX1_needed_123 hl (by decide) rfl (fun ls hl => ?_)
            refine lv_iconst (v := nI 0) hX_ hB_ dX1_needed_125 (by decide) ?_
            refine lv_istore (lv' := [(7, .int (nI 0)), (6, .int (nI 1)), (0, .ref (h 0)), (3, .int (nI M)), (4, .int (nI (dm_cnt (fun p => dm_b (dm_re g s0 p ∧ ∀ q, q < p → dm_re g s0 q → ¬ dm_eq g F p q)) x))), (5, .int (nI x))]) hX_ hB_ dX1_needed_126 hl (by decide) rfl (fun ls hl => ?_)
            refine sd_loop2 (fun nn (y : Nat) (b : Nat) H locs ls => nn = 16 - y ∧ (y ≤ x) ∧ (b = if dm_b (∀ q, q < y → dm_re g s0 q → ¬ dm_eq g F x q) = true then 1 else 0) ∧ sd_W D A s.heap (sd_wM h d u) H locs ∧ lv_has ls 8 [(0, .ref (h 0)), (3, .int (nI M)), (4, .int (nI (dm_cnt (fun p => dm_b (dm_re g s0 p ∧ ∀ q, q < p → dm_re g s0 q → ¬ dm_eq g F p q)) x))), (5, .int (nI x)), (6, .int (nI b)), (7, .int (nI y))]) (fun nn y b H locs ls hI ih3 => ?_) _ 0 1 _ _ _ ⟨rfl, Nat.zero_le _, (by rw [if_pos (dm_b_t.mpr (fun q hq => absurd hq (Nat.not_lt_zero q)))]), hW, lv_sub hl [2, 3, 4, 5, 1, 0] rfl⟩
            · skip
              obtain ⟨rfl, hy, eb, hW, hl⟩ := hI
              have hb3 : b < 2 := by rw [eb]; split <;> omega
              refine lv_iload hX_ hB_ dX1_needed_128 (lv_at hl 5 rfl) ?_
              refine lv_iload hX_ hB_ dX1_needed_130 (lv_at hl 3 rfl) ?_
              refine sd_icmp_ge (tgt := 178) hX_ hB_ dX1_needed_132 (by decide) (by omega) (by omega) (fun c4 => ?_) (fun c4 => ?_)
              · skip
                refine lv_iload hX_ hB_ dX1_needed_178 (lv_at hl 4 rfl) ?_
                have e : y = x := by omega
                subst e
                refine sd_if_eq (tgt := 189) hX_ hB_ dX1_needed_180 (by decide) (by omega) (fun c5 => ?_) (fun c5 => ?_)
                · skip
                  refine sd_iinc (lv' := [(5, .int (nI (y + 1))), (0, .ref (h 0)), (3, .int (nI M)), (4, .int (nI (dm_cnt (fun p => dm_b (dm_re g s0 p ∧ ∀ q, q < p → dm_re g s0 q → ¬ dm_eq g F p q)) y))), (6, .int (nI b)), (7, .int (nI y))]) hX_ hB_ dX1_needed_189 hl (k := 3) rfl (by decide) rfl (fun ls hl => ?_)
                  refine lv_goto (tgt := 104) hX_ hB_ dX1_needed_192 (by decide) ?_
                  have ex : dm_cnt (fun p => dm_b (dm_re g s0 p ∧ ∀ q, q < p → dm_re g s0 q → ¬ dm_eq g F p q)) (y + 1) = dm_cnt (fun p => dm_b (dm_re g s0 p ∧ ∀ q, q < p → dm_re g s0 q → ¬ dm_eq g F p q)) y := by
                    rw [dm_cnt_s, if_neg]
                    · rfl
                    · intro z
                      rw [if_pos (dm_b_t.mpr (dm_b_t.mp z).2)] at eb
                      omega
                  rw [← ex] at hl
                  exact ih2 _ (y + 1) H locs ls (by omega) ⟨rfl, by omega, hW, lv_sub hl [1, 2, 3, 0] rfl⟩
                · skip
                  refine lv_iload hX_ hB_ dX1_needed_183 (lv_at hl 2 rfl) ?_
                  refine lv_iconst (v := nI 1) hX_ hB_ dX1_needed_185 (by decide) ?_
                  refine sd_iadd hX_ hB_ dX1_needed_186 ?_
                  refine lv_istore (lv' := [(4, .int (nI ((dm_cnt (fun p => dm_b (dm_re g s0 p ∧ ∀ q, q < p → dm_re g s0 q → ¬ dm_eq g F p q)) y) + 1))), (0, .ref (h 0)), (3, .int (nI M)), (5, .int (nI y)), (6, .int (nI b)), (7, .int (nI y))]) hX_ hB_ dX1_needed_187 hl (by decide) rfl (fun ls hl => ?_)
                  refine sd_iinc (lv' := [(5, .int (nI (y + 1))), (4, .int (nI ((dm_cnt (fun p => dm_b (dm_re g s0 p ∧ ∀ q, q < p → dm_re g s0 q → ¬ dm_eq g F p q)) y) + 1))), (0, .ref (h 0)), (3, .int (nI M)), (6, .int (nI b)), (7, .int (nI y))]) hX_ hB_ dX1_needed_189 hl (k := 3) rfl (by decide) rfl (fun ls hl => ?_)
                  refine lv_goto (tgt := 104) hX_ hB_ dX1_needed_192 (by decide) ?_
                  have ex : dm_cnt (fun p => dm_b (dm_re g s0 p ∧ ∀ q, q < p → dm_re g s0 q → ¬ dm_eq g F p q)) (y + 1) = dm_cnt (fun p => dm_b (dm_re g s0 p ∧ ∀ q, q < p → dm_re g s0 q → ¬ dm_eq g F p q)) y + 1 := by
                    rw [dm_cnt_s, if_pos]
                    refine dm_b_t.mpr ⟨hrx, Classical.byContradiction fun z => ?_⟩
                    rw [if_neg (fun w => z (dm_b_t.mp w))] at eb
                    omega
                  rw [← ex] at hl
                  exact ih2 _ (y + 1) H locs ls (by omega) ⟨rfl, by omega, hW, lv_sub hl [2, 3, 1, 0] rfl⟩
              · skip
                refine sd_cut (fun z : Nat => z = if dm_b (∀ q, q < y + 1 → dm_re g s0 q → ¬ dm_eq g F x q) = true then 1 else 0) (fun z => F0 m 170 ls [.int (nI z)]) (fun z hz => ?_) (fun J => ?_)
                · skip
                  refine lv_istore (lv' := [(6, .int (nI z)), (0, .ref (h 0)), (3, .int (nI M)), (4, .int (nI (dm_cnt (fun p => dm_b (dm_re g s0 p ∧ ∀ q, q < p → dm_re g s0 q → ¬ dm_eq g F p q)) x))), (5, .int (nI x)), (7, .int (nI y))]) hX_ hB_ dX1_needed_170 hl (by decide) rfl (fun ls hl => ?_)
                  refine sd_iinc (lv' := [(7, .int (nI (y + 1))), (6, .int (nI z)), (0, .ref (h 0)), (3, .int (nI M)), (4, .int (nI (dm_cnt (fun p => dm_b (dm_re g s0 p ∧ ∀ q, q < p → dm_re g s0 q → ¬ dm_eq g F p q)) x))), (5, .int (nI x))]) hX_ hB_ dX1_needed_172 hl (k := 5) rfl (by decide) rfl (fun ls hl => ?_)
                  refine lv_goto (tgt := 128) hX_ hB_ dX1_needed_175 (by decide) ?_
                  exact ih3 _ (y + 1) z H locs ls (by omega) ⟨rfl, by omega, hz, hW, lv_sub hl [2, 3, 4, 5, 1, 0] rfl⟩
                · skip
                  refine lv_iload hX_ hB_ dX1_needed_135 (lv_at hl 4 rfl) ?_
                  refine sd_if_eq (tgt := 169) hX_ hB_ dX1_needed_137 (by decide) (by omega) (fun c6 => ?_) (fun c6 => ?_)
                  · skip
                    refine lv_iconst (v := nI 0) hX_ hB_ dX1_needed_169 (by decide) ?_
                    refine J 0 ?_
                    rw [if_neg]
                    intro z
                    rw [if_pos (dm_b_t.mpr fun q hq => dm_b_t.mp z q (by omega))] at eb
                    omega
                  · skip
                    have eb1 : ∀ q, q < y → dm_re g s0 q → ¬ dm_eq g F x q := by
                      apply Classical.byContradiction
                      intro z
                      rw [if_neg (fun w => z (dm_b_t.mp w))] at eb
                      omega
                    refine lv_iload_n hX_ hB_ dX1_needed_140 rfl (lv_at hl 1 rfl) ?_
                    refine lv_iload hX_ hB_ dX1_needed_141 (lv_at hl 5 rfl) ?_
                    refine sd_ishr hX_ hB_ dX1_needed_143 (by omega) (by omega) ?_
                    refine lv_iconst (v := nI 1) hX_ hB_ dX1_needed_144 (by decide) ?_
                    refine sd_iandE (sd_and1 _) hX_ hB_ dX1_needed_145 ?_
                    refine sd_if_eq (tgt := 165) hX_ hB_ dX1_needed_146 (by decide) (by omega) (fun c7 => ?_) (fun c7 => ?_)
                    · skip
                      refine lv_iconst (v := nI 1) hX_ hB_ dX1_needed_165 (by decide) ?_
                      refine lv_goto (tgt := 170) hX_ hB_ dX1_needed_166 (by decide) ?_
                      refine J 1 ?_
                      rw [if_pos]
                      refine dm_b_t.mpr fun q hq hq2 w => ?_
                      rcases (show q < y ∨ q = y by omega) with z | z
                      · exact eb1 q z hq2 w
                      · subst z; rw [sd_tb0] at c7; rw [(hall q).mpr hq2] at c7; cases c7
                    · skip
                      have hry : dm_re g s0 y := (hall y).mp (sd_tb1.mp (by omega))
                      refine lv_aload_n hX_ hB_ dX1_needed_149 rfl (lv_at hl 0 rfl) ?_
                      refine sd_getM E hW 3 (v := .ref (h 3)) (by decide) rfl q175 dX1_needed_150 ?_
                      refine lv_bipush (v := nI 16) hX_ hB_ dX1_needed_153 (by decide) ?_
                      refine lv_iload hX_ hB_ dX1_needed_155 (lv_at hl 3 rfl) ?_
                      refine sd_imul hX_ hB_ dX1_needed_157 ?_
                      refine lv_iload hX_ hB_ dX1_needed_158 (lv_at hl 5 rfl) ?_
                      refine sd_iadd hX_ hB_ dX1_needed_160 ?_
                      refine sd_zald (f := u 3) E hW 3 rfl (by omega) (by decide) dX1_needed_161 ?_
                      rw [ua _ _ (by omega) (by omega)]
                      refine sd_if_eq (tgt := 169) hX_ hB_ dX1_needed_162 (by decide) (by split <;> decide) (fun c8 => ?_) (fun c8 => ?_)
                      · skip
                        refine lv_iconst (v := nI 0) hX_ hB_ dX1_needed_169 (by decide) ?_
                        refine J 0 ?_
                        rw [if_neg]
                        intro z
                        rw [if_neg (fun w => dm_b_t.mp z y (by omega) hry (dm_b_t.mp w))] at c8
                        cases c8
                      · skip
                        refine lv_iconst (v := nI 1) hX_ hB_ dX1_needed_165 (by decide) ?_
                        refine lv_goto (tgt := 170) hX_ hB_ dX1_needed_166 (by decide) ?_
                        refine J 1 ?_
                        rw [if_pos]
                        refine dm_b_t.mpr fun q hq hq2 w => ?_
                        rcases (show q < y ∨ q = y by omega) with z | z
                        · exact eb1 q z hq2 w
                        · subst z; rw [if_pos (dm_b_t.mpr w)] at c8; exact c8 rfl
    · skip
      obtain ⟨Z, hZ⟩ : ∃ Z, Z = M := ⟨_, rfl⟩
      refine lv_iconst (v := nI 0) hX_ hB_ dX1_needed_18 (by decide) ?_
      refine lv_istore_n (lv' := [(2, .int (nI 0)), (0, .ref (h 0)), (3, .int (nI M))]) hX_ hB_ dX1_needed_19 rfl hl (by decide) rfl (fun ls hl => ?_)
      refine lv_iconst (v := nI 0) hX_ hB_ dX1_needed_20 (by decide) ?_
      refine lv_istore (lv' := [(4, .int (nI 0)), (2, .int (nI 0)), (0, .ref (h 0)), (3, .int (nI M))]) hX_ hB_ dX1_needed_21 hl (by decide) rfl (fun ls hl => ?_)
      refine sd_loop3 (fun nn (x : Nat) (b : Nat) (M : Nat) H locs ls => nn = 16 - x ∧ (x ≤ n) ∧ (b < 2) ∧ (M < 2 ^ 16) ∧ (∀ p, M.testBit p = true → p < n ∧ dm_re g s0 p) ∧ (M.testBit s0 = true) ∧ (Z ≤ M) ∧ (b = 1 → Z < M) ∧ (b = 0 → ∀ p, p < x → M.testBit p = true → M.testBit (g (2 * p)) = true ∧ M.testBit (g (2 * p + 1)) = true) ∧ sd_W D A s.heap (sd_wM h d u) H locs ∧ lv_has ls 8 [(0, .ref (h 0)), (2, .int (nI b)), (3, .int (nI M)), (4, .int (nI x))]) (fun nn x b M H locs ls hI ih4 => ?_) _ 0 0 M _ _ _ ⟨rfl, Nat.zero_le _, by omega, hM, hre, hs0, Nat.le_of_eq hZ, (fun z => by omega), (fun _ p hp => absurd hp (Nat.not_lt_zero p)), hW, lv_sub hl [2, 1, 3, 0] rfl⟩
      · skip
        obtain ⟨rfl, hx, hb2, hM, hre, hs0, hz1, hz2, hcl, hW, hl⟩ := hI
        refine lv_iload hX_ hB_ dX1_needed_23 (lv_at hl 3 rfl) ?_
        refine lv_aload_n hX_ hB_ dX1_needed_25 rfl (lv_at hl 0 rfl) ?_
        refine sd_getM E hW 2 (v := .int (nI (u 0 2))) (by decide) rfl q174 dX1_needed_26 ?_
        refine sd_icmp_ge (tgt := 95) hX_ hB_ dX1_needed_29 (by decide) (by omega) (by omega) (fun c9 => ?_) (fun c9 => ?_)
        · skip
          refine lv_goto (tgt := 14) hX_ hB_ dX1_needed_95 (by decide) ?_
          exact ih1 _ b M H locs ls (by rcases (show b = 0 ∨ b = 1 by omega) with z | z; omega; have := hz2 z; omega) ⟨rfl, hb2, hM, hre, hs0, (fun z p hp => hcl z p (by have := (hre p hp).1; omega) hp), hW, lv_sub hl [0, 1, 2] rfl⟩
        · skip
          refine lv_iload_n hX_ hB_ dX1_needed_32 rfl (lv_at hl 2 rfl) ?_
          refine lv_iload hX_ hB_ dX1_needed_33 (lv_at hl 3 rfl) ?_
          refine sd_ishr hX_ hB_ dX1_needed_35 (by omega) (by omega) ?_
          refine lv_iconst (v := nI 1) hX_ hB_ dX1_needed_36 (by decide) ?_
          refine sd_iandE (sd_and1 _) hX_ hB_ dX1_needed_37 ?_
          refine sd_if_eq (tgt := 89) hX_ hB_ dX1_needed_38 (by decide) (by omega) (fun c10 => ?_) (fun c10 => ?_)
          · skip
            refine sd_iinc (lv' := [(4, .int (nI (x + 1))), (0, .ref (h 0)), (2, .int (nI b)), (3, .int (nI M))]) hX_ hB_ dX1_needed_89 hl (k := 3) rfl (by decide) rfl (fun ls hl => ?_)
            refine lv_goto (tgt := 23) hX_ hB_ dX1_needed_92 (by decide) ?_
            exact ih4 _ (x + 1) b M H locs ls (by omega) ⟨rfl, by omega, hb2, hM, hre, hs0, hz1, hz2, (fun z p hp hb => by rcases (show p < x ∨ p = x by omega) with w | w; exact hcl z p w hb; subst w; rw [sd_tb0] at c10; rw [hb] at c10; cases c10), hW, lv_sub hl [1, 2, 3, 0] rfl⟩
          · skip
            have g1 := hg (2 * x) (by omega)
            have g2 := hg (2 * x + 1) (by omega)
            have hrx : dm_re g s0 x := (hre x (sd_tb1.mp (by omega))).2
            refine lv_iload_n hX_ hB_ dX1_needed_41 rfl (lv_at hl 2 rfl) ?_
            refine lv_iconst (v := nI 1) hX_ hB_ dX1_needed_42 (by decide) ?_
            refine lv_aload_n hX_ hB_ dX1_needed_43 rfl (lv_at hl 0 rfl) ?_
            refine sd_getM E hW 0 (v := .ref (h 1)) (by decide) rfl q172 dX1_needed_44 ?_
            refine lv_iconst (v := nI 2) hX_ hB_ dX1_needed_47 (by decide) ?_
            refine lv_iload hX_ hB_ dX1_needed_48 (lv_at hl 3 rfl) ?_
            refine sd_imul hX_ hB_ dX1_needed_50 ?_
            refine sd_ald (f := u 1) E hW 1 rfl (by omega) (by decide) dX1_needed_51 ?_
            rw [ug _ (by omega)]
            refine sd_ishl1 hX_ hB_ dX1_needed_52 (by omega) ?_
            refine sd_ior hX_ hB_ dX1_needed_53 ?_
            refine lv_iconst (v := nI 1) hX_ hB_ dX1_needed_54 (by decide) ?_
            refine lv_aload_n hX_ hB_ dX1_needed_55 rfl (lv_at hl 0 rfl) ?_
            refine sd_getM E hW 0 (v := .ref (h 1)) (by decide) rfl q172 dX1_needed_56 ?_
            refine lv_iconst (v := nI 2) hX_ hB_ dX1_needed_59 (by decide) ?_
            refine lv_iload hX_ hB_ dX1_needed_60 (lv_at hl 3 rfl) ?_
            refine sd_imul hX_ hB_ dX1_needed_62 ?_
            refine lv_iconst (v := nI 1) hX_ hB_ dX1_needed_63 (by decide) ?_
            refine sd_iadd hX_ hB_ dX1_needed_64 ?_
            refine sd_ald (f := u 1) E hW 1 rfl (by omega) (by decide) dX1_needed_65 ?_
            rw [ug _ (by omega)]
            refine sd_ishl1 hX_ hB_ dX1_needed_66 (by omega) ?_
            refine sd_ior hX_ hB_ dX1_needed_67 ?_
            obtain ⟨N, hN⟩ : ∃ N, N = (M ||| 2 ^ g (2 * x)) ||| 2 ^ g (2 * x + 1) := ⟨_, rfl⟩
            rw [← hN]
            have hNb : ∀ j, N.testBit j = (M.testBit j || decide (g (2 * x) = j) || decide (g (2 * x + 1) = j)) := fun j => by rw [hN, sd_or_bit, sd_or_bit]
            have hN16 : N < 2 ^ 16 := by rw [hN]; exact Nat.or_lt_two_pow (Nat.or_lt_two_pow hM (Nat.pow_lt_pow_right (by decide) (by omega))) (Nat.pow_lt_pow_right (by decide) (by omega))
            have hMN : M ≤ N := by rw [hN]; exact Nat.le_trans Nat.left_le_or Nat.left_le_or
            have hsub : ∀ j, M.testBit j = true → N.testBit j = true := fun j hj => by rw [hNb, hj]; rfl
            have hreN : ∀ p, N.testBit p = true → p < n ∧ dm_re g s0 p := by
              intro p hp
              rw [hNb, Bool.or_eq_true, Bool.or_eq_true, decide_eq_true_eq, decide_eq_true_eq] at hp
              rcases hp with (z | z) | z
              · exact hre p z
              · rw [← z]; exact ⟨g1, dm_re_st hrx (x := 0) (by decide)⟩
              · rw [← z]; exact ⟨g2, dm_re_st hrx (x := 1) (by decide)⟩
            have hNx : N.testBit (g (2 * x)) = true ∧ N.testBit (g (2 * x + 1)) = true := ⟨by rw [hNb]; simp, by rw [hNb]; simp⟩
            refine lv_istore (lv' := [(5, .int (nI N)), (0, .ref (h 0)), (2, .int (nI b)), (3, .int (nI M)), (4, .int (nI x))]) hX_ hB_ dX1_needed_68 hl (by decide) rfl (fun ls hl => ?_)
            refine sd_cut (fun z : Nat => z < 2 ∧ (z = 0 → b = 0 ∧ N = M) ∧ (z = 1 → b = 1 ∨ N ≠ M)) (fun z => F0 m 85 ls [.int (nI z)]) (fun z hz => ?_) (fun J => ?_)
            · skip
              obtain ⟨z2, z0, z1⟩ := hz
              refine lv_istore_n (lv' := [(2, .int (nI z)), (5, .int (nI N)), (0, .ref (h 0)), (3, .int (nI M)), (4, .int (nI x))]) hX_ hB_ dX1_needed_85 rfl hl (by decide) rfl (fun ls hl => ?_)
              refine lv_iload hX_ hB_ dX1_needed_86 (lv_at hl 1 rfl) ?_
              refine lv_istore_n (lv' := [(3, .int (nI N)), (2, .int (nI z)), (5, .int (nI N)), (0, .ref (h 0)), (4, .int (nI x))]) hX_ hB_ dX1_needed_88 rfl hl (by decide) rfl (fun ls hl => ?_)
              refine sd_iinc (lv' := [(4, .int (nI (x + 1))), (3, .int (nI N)), (2, .int (nI z)), (5, .int (nI N)), (0, .ref (h 0))]) hX_ hB_ dX1_needed_89 hl (k := 4) rfl (by decide) rfl (fun ls hl => ?_)
              refine lv_goto (tgt := 23) hX_ hB_ dX1_needed_92 (by decide) ?_
              exact ih4 _ (x + 1) z N H locs ls (by omega) ⟨rfl, by omega, z2, hN16, hreN, hsub _ hs0, by omega, (fun w => by rcases z1 w with q | q; (have := hz2 q; omega); omega), (fun w p hp hb => by obtain ⟨q1, q2⟩ := z0 w; rcases (show p < x ∨ p = x by omega) with r | r; (rw [q2] at hb ⊢; exact hcl q1 p r hb); subst r; exact hNx), hW, lv_sub hl [4, 2, 1, 0] rfl⟩
            · skip
              refine lv_iload_n hX_ hB_ dX1_needed_70 rfl (lv_at hl 2 rfl) ?_
              refine sd_if_ne (tgt := 80) hX_ hB_ dX1_needed_71 (by decide) (by omega) (fun c11 => ?_) (fun c11 => ?_)
              · skip
                refine lv_iconst (v := nI 1) hX_ hB_ dX1_needed_80 (by decide) ?_
                refine lv_goto (tgt := 85) hX_ hB_ dX1_needed_81 (by decide) ?_
                exact J 1 ⟨by decide, fun z => by omega, fun _ => Or.inl (by omega)⟩
              · skip
                refine lv_iload hX_ hB_ dX1_needed_74 (lv_at hl 0 rfl) ?_
                refine lv_iload_n hX_ hB_ dX1_needed_76 rfl (lv_at hl 3 rfl) ?_
                refine sd_icmp_eq (tgt := 84) hX_ hB_ dX1_needed_77 (by decide) (by omega) (by omega) (fun c12 => ?_) (fun c12 => ?_)
                · skip
                  refine lv_iconst (v := nI 0) hX_ hB_ dX1_needed_84 (by decide) ?_
                  exact J 0 ⟨by decide, fun _ => ⟨c11, c12⟩, fun z => by omega⟩
                · skip
                  refine lv_iconst (v := nI 1) hX_ hB_ dX1_needed_80 (by decide) ?_
                  refine lv_goto (tgt := 85) hX_ hB_ dX1_needed_81 (by decide) ?_
                  exact J 1 ⟨by decide, fun z => by omega, fun _ => Or.inr c12⟩
end
section
/-! the model's distances -/
def sd_fr (n : Nat) (g : Nat → Nat) (F : Nat → Bool) (S T : Nat → Nat → Nat) : Prop := (∀ c, c ≠ 4 → T c = S c) ∧ (∀ j, j < 256 → T 4 j ≤ 99) ∧ ∀ p q, p < n → q < n → T 4 (16 * p + q) = 99 ∨ dm_df g F p q (T 4 (16 * p + q))
def sd_fc (n : Nat) (g : Nat → Nat) (F : Nat → Bool) (T : Nat → Nat → Nat) (k p0 q0 : Nat) : Prop := ∀ p q d, p < n → q < n → dm_df g F p q d → (d ≤ k ∨ (d ≤ k + 1 ∧ (p < p0 ∨ (p = p0 ∧ q < q0)))) → T 4 (16 * p + q) ≤ d
theorem sd_fr_put {n : Nat} {g : Nat → Nat} {F : Nat → Bool} {S T : Nat → Nat → Nat} (hm : sd_mch n g) (h : sd_fr n g F S T) {p q x v : Nat} (hp : p < n) (hq : q < n) (hx : x < 2) (hv : v = T 4 (16 * g (2 * p + x) + g (2 * q + x)) + 1) (hlt : v < T 4 (16 * p + q)) : sd_fr n g F S (sd_up T 4 (16 * p + q) v) := by
  obtain ⟨a, b, c⟩ := h
  have h16 := hm.2.1
  have h99 := b (16 * p + q) (by omega)
  refine ⟨fun c' hc => ?_, fun j hj => ?_, fun p' q' hp' hq' => ?_⟩
  · rw [sd_up_c _ _ _ hc]; exact a c' hc
  · rw [sd_up_at]; split
    · omega
    · exact b j hj
  · rw [sd_up_at]
    by_cases e : 16 * p' + q' = 16 * p + q
    · have e1 : p' = p := by omega
      have e2 : q' = q := by omega
      subst e1 e2
      rw [if_pos rfl]
      rcases c _ _ (hm.2.2 (2 * p' + x) (by omega)) (hm.2.2 (2 * q' + x) (by omega)) with z | z
      · omega
      · right
        rw [hv]
        exact dm_df_s.mpr ⟨x, hx, z⟩
    · rw [if_neg e]; exact c p' q' hp' hq'
theorem sd_fc_le {n : Nat} {g : Nat → Nat} {F : Nat → Bool} {T T2 : Nat → Nat → Nat} {k p0 q0 : Nat} (h : sd_fc n g F T k p0 q0) (hle : ∀ j, T2 4 j ≤ T 4 j) : sd_fc n g F T2 k p0 q0 := fun p q d hp hq hd hc => Nat.le_trans (hle _) (h p q d hp hq hd hc)
theorem sd_up_le {T : Nat → Nat → Nat} {k v : Nat} (h : v ≤ T 4 k) (j : Nat) : sd_up T 4 k v 4 j ≤ T 4 j := by
  rw [sd_up_at]; split
  · next e => rw [e]; exact h
  · exact Nat.le_refl _
/-- what a step of the greedy walk keeps -/
theorem dm_greedy {g : Nat → Nat} {F : Nat → Bool} {p q w x y D l : Nat} (hw : 1 ≤ w) (ex : x = dm_run g p w) (ey : y = dm_run g q w) (hl : l < 2) (h1 : l = 1 → ¬ dm_df g F (g (2 * x)) (g (2 * y)) D)
    (hmin : ∀ c, 1 ≤ c → F (dm_run g p c) ≠ F (dm_run g q c) → w * 2 ^ (D + 1) ≤ c) : ∀ c, 1 ≤ c → F (dm_run g p c) ≠ F (dm_run g q c) → (2 * w + l) * 2 ^ D ≤ c := by
  intro c hc hne
  have h2 := hmin c hc hne
  have e2 : w * 2 ^ (D + 1) = 2 * w * 2 ^ D := by rw [Nat.pow_succ, Nat.mul_comm (2 ^ D) 2, ← Nat.mul_assoc, Nat.mul_comm w 2]
  rcases (show l = 0 ∨ l = 1 by omega) with rfl | rfl
  · rw [Nat.add_zero]; omega
  · apply Classical.byContradiction
    intro hlt
    rw [Nat.add_mul, Nat.one_mul] at hlt
    apply h1 rfl
    have hr : c - 2 * w * 2 ^ D < 2 ^ D := by omega
    have ec : c = 2 * w * 2 ^ D + (c - 2 * w * 2 ^ D) := by omega
    refine ⟨c - 2 * w * 2 ^ D, hr, ?_⟩
    rw [ec, dm_run_c g p (by omega) D _ hr, dm_run_c g q (by omega) D _ hr] at hne
    have r1 := dm_run_s g p (c := w) (x := 0) hw (by decide)
    have r2 := dm_run_s g q (c := w) (x := 0) hw (by decide)
    rw [Nat.add_zero, Nat.add_zero] at r1 r2
    rw [r1, r2, ← ex, ← ey] at hne
    have e3 : 2 * w * 2 ^ D + (c - 2 * w * 2 ^ D) - 2 * w * 2 ^ D = c - 2 * w * 2 ^ D := by omega
    simpa [e3] using hne

set_option maxHeartbeats 4000000 in
set_option maxRecDepth 100000 in
/-- model: distances -/
theorem m_Mfar (l : Launch) (D : va_G) (d : Nat → ClassId) (h : Nat → Nat) (S : Nat → Nat → Nat) {n : Nat} {g : Nat → Nat} {F : Nat → Bool} (hB : sd_MB n g F S) (sz : Nat) : Met l yX1_far (ws_ yX1_far cX1_far 6 none) (sd_rm 0) (va_Pc [.ref (h 0)] (sd_P D d (sd_wM h d S) sz)) (sd_Qv D (fun u : Nat → Nat → Nat => (∀ c, c ≠ 4 → u c = S c) ∧ ∀ p q, p < n → q < n → u 4 (16 * p + q) ≤ 99 ∧ (u 4 (16 * p + q) = 99 ∨ dm_df g F p q (u 4 (16 * p + q))) ∧ ∀ d, dm_df g F p q d → u 4 (16 * p + q) ≤ d) (fun u => sd_wM h d u) (va_A (sd_wM h d S) sz)) 0 0 (va_A (sd_wM h d S) sz) := by
  refine sd_ofW (Qc := sd_Qv D (fun u : Nat → Nat → Nat => (∀ c, c ≠ 4 → u c = S c) ∧ ∀ p q, p < n → q < n → u 4 (16 * p + q) ≤ 99 ∧ (u 4 (16 * p + q) = 99 ∨ dm_df g F p q (u 4 (16 * p + q))) ∧ ∀ d, dm_df g F p q d → u 4 (16 * p + q) ≤ d) (fun u => sd_wM h d u)) (own := RX1) (by decide) rfl (Nat.le_of_ble_eq_true rfl) ?_
  intro p e s m below meth c ls A E hr hlk hnm hA hW hl
  have hX_ := E.1.1
  have hB_ := E.1.2.1
  have hown := E.1.2.2.2.1
  have hts := E.1.2.2.2.2
  have hl : lv_has ls 6 [(0, .ref (h 0))] := hl
  obtain ⟨⟨hn1, hn2, hg⟩, e0, e1, e2⟩ := id hB
  refine lv_iconst (v := nI 0) hX_ hB_ dX1_far_0 (by decide) ?_
  refine lv_istore_n (lv' := [(1, .int (nI 0)), (0, .ref (h 0))]) hX_ hB_ dX1_far_1 rfl hl (by decide) rfl (fun ls hl => ?_)
  refine sd_loop2 (fun nn (i : Nat) (T : Nat → Nat → Nat) H locs ls => nn = 256 - i ∧ (i ≤ 256) ∧ (∀ c, c ≠ 4 → T c = S c) ∧ (∀ j, j < i → T 4 j = if j / 16 < n ∧ j % 16 < n ∧ F (j / 16) ≠ F (j % 16) then 0 else 99) ∧ sd_W D A s.heap (sd_wM h d T) H locs ∧ lv_has ls 6 [(0, .ref (h 0)), (1, .int (nI i))]) (fun nn i T H locs ls hI ih0 => ?_) _ 0 S _ _ _ ⟨rfl, Nat.zero_le _, (fun _ _ => rfl), (fun j hj => absurd hj (Nat.not_lt_zero j)), hW, lv_sub hl [1, 0] rfl⟩
  · skip
    obtain ⟨rfl, hi, tc, t3, hW, hl⟩ := hI
    have t0 : T 0 2 = n := by rw [tc 0 (by decide)]; exact e0
    have t2 : ∀ p, p < 16 → T 2 p = if F p = true then 1 else 0 := by rw [tc 2 (by decide)]; exact e2
    refine lv_iload_n hX_ hB_ dX1_far_2 rfl (lv_at hl 1 rfl) ?_
    refine lv_sipush (v := nI 256) hX_ hB_ dX1_far_3 (by decide) ?_
    refine sd_icmp_ge (tgt := 70) hX_ hB_ dX1_far_6 (by decide) (by omega) (by omega) (fun c1 => ?_) (fun c1 => ?_)
    · skip
      have h256 : i = 256 := by omega
      subst h256
      have hfr : sd_fr n g F S T := by
        refine ⟨tc, fun j hj => ?_, fun p q hp hq => ?_⟩
        · rw [t3 j hj]; split <;> omega
        · rw [t3 _ (by omega), show (16 * p + q) / 16 = p by omega, show (16 * p + q) % 16 = q by omega]
          by_cases c : p < n ∧ q < n ∧ F p ≠ F q
          · rw [if_pos c]; right; exact dm_df_0.mpr c.2.2
          · rw [if_neg c]; left; rfl
      have hfc : sd_fc n g F T 0 0 0 := by
        intro p q d hp hq hd hc
        have hd0 : d = 0 := by omega
        subst hd0
        rw [t3 _ (by omega), show (16 * p + q) / 16 = p by omega, show (16 * p + q) % 16 = q by omega, if_pos ⟨hp, hq, dm_df_0.mp hd⟩]
        exact Nat.le_refl 0
      refine lv_iconst (v := nI 0) hX_ hB_ dX1_far_70 (by decide) ?_
      refine lv_istore_n (lv' := [(1, .int (nI 0)), (0, .ref (h 0))]) hX_ hB_ dX1_far_71 rfl hl (by decide) rfl (fun ls hl => ?_)
      refine sd_loop2 (fun nn (k : Nat) (T : Nat → Nat → Nat) H locs ls => nn = 16 - k ∧ (k ≤ 16) ∧ (sd_fr n g F S T) ∧ (sd_fc n g F T k 0 0) ∧ sd_W D A s.heap (sd_wM h d T) H locs ∧ lv_has ls 6 [(0, .ref (h 0)), (1, .int (nI k))]) (fun nn k T H locs ls hI ih1 => ?_) _ 0 T _ _ _ ⟨rfl, Nat.zero_le _, hfr, hfc, hW, lv_sub hl [1, 0] rfl⟩
      · skip
        obtain ⟨rfl, hk, hfr, hfc, hW, hl⟩ := hI
        refine lv_iload_n hX_ hB_ dX1_far_72 rfl (lv_at hl 1 rfl) ?_
        refine lv_bipush (v := nI 16) hX_ hB_ dX1_far_73 (by decide) ?_
        refine sd_icmp_ge (tgt := 195) hX_ hB_ dX1_far_75 (by decide) (by omega) (by omega) (fun c2 => ?_) (fun c2 => ?_)
        · skip
          have hk16 : k = 16 := by omega
          subst hk16
          refine sd_vret E hr hlk T hW ⟨hfr.1, fun p q hp hq => ⟨hfr.2.1 _ (by omega), hfr.2.2 p q hp hq, fun d hd => ?_⟩⟩ dX1_far_195
          rcases Nat.lt_or_ge d 16 with z | z
          · exact hfc p q d hp hq hd (by omega)
          · obtain ⟨d2, h2, hd2⟩ := dm_moore (n := n) (fun p x hp hx => hg _ (by omega)) hp hq hd
            exact Nat.le_trans (hfc p q d2 hp hq hd2 (by omega)) (by omega)
        · skip
          refine lv_iconst (v := nI 0) hX_ hB_ dX1_far_78 (by decide) ?_
          refine lv_istore_n (lv' := [(2, .int (nI 0)), (0, .ref (h 0)), (1, .int (nI k))]) hX_ hB_ dX1_far_79 rfl hl (by decide) rfl (fun ls hl => ?_)
          refine sd_loop2 (fun nn (p1 : Nat) (T : Nat → Nat → Nat) H locs ls => nn = 16 - p1 ∧ (p1 ≤ n) ∧ (sd_fr n g F S T) ∧ (sd_fc n g F T k p1 0) ∧ sd_W D A s.heap (sd_wM h d T) H locs ∧ lv_has ls 6 [(0, .ref (h 0)), (1, .int (nI k)), (2, .int (nI p1))]) (fun nn p1 T H locs ls hI ih2 => ?_) _ 0 T _ _ _ ⟨rfl, Nat.zero_le _, hfr, hfc, hW, lv_sub hl [1, 2, 0] rfl⟩
          · skip
            obtain ⟨rfl, hp1, hfr, hfc, hW, hl⟩ := hI
            have t0 : T 0 2 = n := by rw [hfr.1 0 (by decide)]; exact e0
            refine lv_iload_n hX_ hB_ dX1_far_80 rfl (lv_at hl 2 rfl) ?_
            refine lv_aload_n hX_ hB_ dX1_far_81 rfl (lv_at hl 0 rfl) ?_
            refine sd_getM E hW 2 (v := .int (nI (T 0 2))) (by decide) rfl q174 dX1_far_82 ?_
            refine sd_icmp_ge (tgt := 189) hX_ hB_ dX1_far_85 (by decide) (by omega) (by omega) (fun c3 => ?_) (fun c3 => ?_)
            · skip
              refine sd_iinc (lv' := [(1, .int (nI (k + 1))), (0, .ref (h 0)), (2, .int (nI p1))]) hX_ hB_ dX1_far_189 hl (k := 1) rfl (by decide) rfl (fun ls hl => ?_)
              refine lv_goto (tgt := 72) hX_ hB_ dX1_far_192 (by decide) ?_
              exact ih1 _ (k + 1) T H locs ls (by omega) ⟨rfl, by omega, hfr, (fun p q d hp hq hd hc => hfc p q d hp hq hd (by omega)), hW, lv_sub hl [1, 0] rfl⟩
            · skip
              refine lv_iconst (v := nI 0) hX_ hB_ dX1_far_88 (by decide) ?_
              refine lv_istore_n (lv' := [(3, .int (nI 0)), (0, .ref (h 0)), (1, .int (nI k)), (2, .int (nI p1))]) hX_ hB_ dX1_far_89 rfl hl (by decide) rfl (fun ls hl => ?_)
              refine sd_loop2 (fun nn (q1 : Nat) (T : Nat → Nat → Nat) H locs ls => nn = 16 - q1 ∧ (q1 ≤ n) ∧ (sd_fr n g F S T) ∧ (sd_fc n g F T k p1 q1) ∧ sd_W D A s.heap (sd_wM h d T) H locs ∧ lv_has ls 6 [(0, .ref (h 0)), (1, .int (nI k)), (2, .int (nI p1)), (3, .int (nI q1))]) (fun nn q1 T H locs ls hI ih3 => ?_) _ 0 T _ _ _ ⟨rfl, Nat.zero_le _, hfr, hfc, hW, lv_sub hl [1, 2, 3, 0] rfl⟩
              · skip
                obtain ⟨rfl, hq1, hfr, hfc, hW, hl⟩ := hI
                have t0 : T 0 2 = n := by rw [hfr.1 0 (by decide)]; exact e0
                refine lv_iload_n hX_ hB_ dX1_far_90 rfl (lv_at hl 3 rfl) ?_
                refine lv_aload_n hX_ hB_ dX1_far_91 rfl (lv_at hl 0 rfl) ?_
                refine sd_getM E hW 2 (v := .int (nI (T 0 2))) (by decide) rfl q174 dX1_far_92 ?_
                refine sd_icmp_ge (tgt := 183) hX_ hB_ dX1_far_95 (by decide) (by omega) (by omega) (fun c4 => ?_) (fun c4 => ?_)
                · skip
                  refine sd_iinc (lv' := [(2, .int (nI (p1 + 1))), (0, .ref (h 0)), (1, .int (nI k)), (3, .int (nI q1))]) hX_ hB_ dX1_far_183 hl (k := 2) rfl (by decide) rfl (fun ls hl => ?_)
                  refine lv_goto (tgt := 80) hX_ hB_ dX1_far_186 (by decide) ?_
                  exact ih2 _ (p1 + 1) T H locs ls (by omega) ⟨rfl, by omega, hfr, (fun p q d hp hq hd hc => hfc p q d hp hq hd (by omega)), hW, lv_sub hl [1, 2, 0] rfl⟩
                · skip
                  refine lv_iconst (v := nI 0) hX_ hB_ dX1_far_98 (by decide) ?_
                  refine lv_istore (lv' := [(4, .int (nI 0)), (0, .ref (h 0)), (1, .int (nI k)), (2, .int (nI p1)), (3, .int (nI q1))]) hX_ hB_ dX1_far_99 hl (by decide) rfl (fun ls hl => ?_)
                  refine sd_loop2 (fun nn (x : Nat) (T : Nat → Nat → Nat) H locs ls => nn = 2 - x ∧ (x ≤ 2) ∧ (sd_fr n g F S T) ∧ (sd_fc n g F T k p1 q1) ∧ (∀ z d, z < x → d ≤ k → dm_df g F (g (2 * p1 + z)) (g (2 * q1 + z)) d → T 4 (16 * p1 + q1) ≤ d + 1) ∧ sd_W D A s.heap (sd_wM h d T) H locs ∧ lv_has ls 6 [(0, .ref (h 0)), (1, .int (nI k)), (2, .int (nI p1)), (3, .int (nI q1)), (4, .int (nI x))]) (fun nn x T H locs ls hI ih4 => ?_) _ 0 T _ _ _ ⟨rfl, Nat.zero_le _, hfr, hfc, (fun z d hz => absurd hz (Nat.not_lt_zero z)), hW, lv_sub hl [1, 2, 3, 4, 0] rfl⟩
                  · skip
                    obtain ⟨rfl, hx, hfr, hfc, hfx, hW, hl⟩ := hI
                    have t1 : ∀ j, j < 32 → T 1 j = g j := by rw [hfr.1 1 (by decide)]; exact e1
                    refine lv_iload hX_ hB_ dX1_far_101 (lv_at hl 4 rfl) ?_
                    refine lv_iconst (v := nI 2) hX_ hB_ dX1_far_103 (by decide) ?_
                    refine sd_icmp_ge (tgt := 177) hX_ hB_ dX1_far_104 (by decide) (by omega) (by omega) (fun c5 => ?_) (fun c5 => ?_)
                    · skip
                      refine sd_iinc (lv' := [(3, .int (nI (q1 + 1))), (0, .ref (h 0)), (1, .int (nI k)), (2, .int (nI p1)), (4, .int (nI x))]) hX_ hB_ dX1_far_177 hl (k := 3) rfl (by decide) rfl (fun ls hl => ?_)
                      refine lv_goto (tgt := 90) hX_ hB_ dX1_far_180 (by decide) ?_
                      have hfc2 : sd_fc n g F T k p1 (q1 + 1) := by
                        intro p q d hp hq hd hc
                        by_cases e : p = p1 ∧ q = q1
                        · obtain ⟨rfl, rfl⟩ := e
                          cases d with
                          | zero => exact hfc p q 0 hp hq hd (by omega)
                          | succ d =>
                            obtain ⟨z, hz, hd2⟩ := dm_df_s.mp hd
                            exact hfx z d (by omega) (by omega) hd2
                        · exact hfc p q d hp hq hd (by omega)
                      exact ih3 _ (q1 + 1) T H locs ls (by omega) ⟨rfl, by omega, hfr, hfc2, hW, lv_sub hl [1, 2, 3, 0] rfl⟩
                    · skip
                      have g1 := hg (2 * p1 + x) (by omega)
                      have g2 := hg (2 * q1 + x) (by omega)
                      have b1 := hfr.2.1 (16 * g (2 * p1 + x) + g (2 * q1 + x)) (by omega)
                      have b2 := hfr.2.1 (16 * p1 + q1) (by omega)
                      refine lv_aload_n hX_ hB_ dX1_far_107 rfl (lv_at hl 0 rfl) ?_
                      refine sd_getM E hW 4 (v := .ref (h 4)) (by decide) rfl q176 dX1_far_108 ?_
                      refine lv_bipush (v := nI 16) hX_ hB_ dX1_far_111 (by decide) ?_
                      refine lv_aload_n hX_ hB_ dX1_far_113 rfl (lv_at hl 0 rfl) ?_
                      refine sd_getM E hW 0 (v := .ref (h 1)) (by decide) rfl q172 dX1_far_114 ?_
                      refine lv_iconst (v := nI 2) hX_ hB_ dX1_far_117 (by decide) ?_
                      refine lv_iload_n hX_ hB_ dX1_far_118 rfl (lv_at hl 2 rfl) ?_
                      refine sd_imul hX_ hB_ dX1_far_119 ?_
                      refine lv_iload hX_ hB_ dX1_far_120 (lv_at hl 4 rfl) ?_
                      refine sd_iadd hX_ hB_ dX1_far_122 ?_
                      refine sd_ald (f := T 1) E hW 1 rfl (by omega) (by decide) dX1_far_123 ?_
                      rw [t1 _ (by omega)]
                      refine sd_imul hX_ hB_ dX1_far_124 ?_
                      refine lv_aload_n hX_ hB_ dX1_far_125 rfl (lv_at hl 0 rfl) ?_
                      refine sd_getM E hW 0 (v := .ref (h 1)) (by decide) rfl q172 dX1_far_126 ?_
                      refine lv_iconst (v := nI 2) hX_ hB_ dX1_far_129 (by decide) ?_
                      refine lv_iload_n hX_ hB_ dX1_far_130 rfl (lv_at hl 3 rfl) ?_
                      refine sd_imul hX_ hB_ dX1_far_131 ?_
                      refine lv_iload hX_ hB_ dX1_far_132 (lv_at hl 4 rfl) ?_
                      refine sd_iadd hX_ hB_ dX1_far_134 ?_
                      refine sd_ald (f := T 1) E hW 1 rfl (by omega) (by decide) dX1_far_135 ?_
                      rw [t1 _ (by omega)]
                      refine sd_iadd hX_ hB_ dX1_far_136 ?_
                      refine sd_ald (f := T 4) E hW 4 rfl (by omega) (by decide) dX1_far_137 ?_
                      refine lv_iconst (v := nI 1) hX_ hB_ dX1_far_138 (by decide) ?_
                      refine sd_iadd hX_ hB_ dX1_far_139 ?_
                      obtain ⟨v, hv⟩ : ∃ v, v = T 4 (16 * g (2 * p1 + x) + g (2 * q1 + x)) + 1 := ⟨_, rfl⟩
                      rw [← hv]
                      refine lv_istore (lv' := [(5, .int (nI v)), (0, .ref (h 0)), (1, .int (nI k)), (2, .int (nI p1)), (3, .int (nI q1)), (4, .int (nI x))]) hX_ hB_ dX1_far_140 hl (by decide) rfl (fun ls hl => ?_)
                      refine lv_iload hX_ hB_ dX1_far_142 (lv_at hl 0 rfl) ?_
                      refine lv_aload_n hX_ hB_ dX1_far_144 rfl (lv_at hl 1 rfl) ?_
                      refine sd_getM E hW 4 (v := .ref (h 4)) (by decide) rfl q176 dX1_far_145 ?_
                      refine lv_bipush (v := nI 16) hX_ hB_ dX1_far_148 (by decide) ?_
                      refine lv_iload_n hX_ hB_ dX1_far_150 rfl (lv_at hl 3 rfl) ?_
                      refine sd_imul hX_ hB_ dX1_far_151 ?_
                      refine lv_iload_n hX_ hB_ dX1_far_152 rfl (lv_at hl 4 rfl) ?_
                      refine sd_iadd hX_ hB_ dX1_far_153 ?_
                      refine sd_ald (f := T 4) E hW 4 rfl (by omega) (by decide) dX1_far_154 ?_
                      refine sd_icmp_ge (tgt := 171) hX_ hB_ dX1_far_155 (by decide) (by omega) (by omega) (fun c6 => ?_) (fun c6 => ?_)
                      · skip
                        refine sd_iinc (lv' := [(4, .int (nI (x + 1))), (5, .int (nI v)), (0, .ref (h 0)), (1, .int (nI k)), (2, .int (nI p1)), (3, .int (nI q1))]) hX_ hB_ dX1_far_171 hl (k := 5) rfl (by decide) rfl (fun ls hl => ?_)
                        refine lv_goto (tgt := 101) hX_ hB_ dX1_far_174 (by decide) ?_
                        exact ih4 _ (x + 1) T H locs ls (by omega) ⟨rfl, by omega, hfr, hfc, (fun z d hz hd hdf => by rcases (show z < x ∨ z = x by omega) with q | q; exact hfx z d q hd hdf; (subst q; have h1 := hfc _ _ d g1 g2 hdf (Or.inl hd); omega)), hW, lv_sub hl [2, 3, 4, 5, 0] rfl⟩
                      · skip
                        have hle : ∀ j, sd_up T 4 (16 * p1 + q1) v 4 j ≤ T 4 j := sd_up_le (by omega)
                        refine lv_aload_n hX_ hB_ dX1_far_158 rfl (lv_at hl 1 rfl) ?_
                        refine sd_getM E hW 4 (v := .ref (h 4)) (by decide) rfl q176 dX1_far_159 ?_
                        refine lv_bipush (v := nI 16) hX_ hB_ dX1_far_162 (by decide) ?_
                        refine lv_iload_n hX_ hB_ dX1_far_164 rfl (lv_at hl 3 rfl) ?_
                        refine sd_imul hX_ hB_ dX1_far_165 ?_
                        refine lv_iload_n hX_ hB_ dX1_far_166 rfl (lv_at hl 4 rfl) ?_
                        refine sd_iadd hX_ hB_ dX1_far_167 ?_
                        refine lv_iload hX_ hB_ dX1_far_168 (lv_at hl 0 rfl) ?_
                        refine sd_astM E hW 4 (by decide) (show 16 * p1 + q1 < 256 by omega) dX1_far_170 (fun H locs hW => ?_)
                        refine sd_iinc (lv' := [(4, .int (nI (x + 1))), (5, .int (nI v)), (0, .ref (h 0)), (1, .int (nI k)), (2, .int (nI p1)), (3, .int (nI q1))]) hX_ hB_ dX1_far_171 hl (k := 5) rfl (by decide) rfl (fun ls hl => ?_)
                        refine lv_goto (tgt := 101) hX_ hB_ dX1_far_174 (by decide) ?_
                        exact ih4 _ (x + 1) (sd_up T 4 (16 * p1 + q1) v) H locs ls (by omega) ⟨rfl, by omega, sd_fr_put hB.1 hfr (by omega) (by omega) (by omega) hv c6, sd_fc_le hfc hle, (fun z d hz hd hdf => by rcases (show z < x ∨ z = x by omega) with q | q; exact Nat.le_trans (hle _) (hfx z d q hd hdf); (subst q; have h1 := hfc _ _ d g1 g2 hdf (Or.inl hd); (rw [sd_up_at, if_pos rfl]; omega))), hW, lv_sub hl [2, 3, 4, 5, 0] rfl⟩
    · skip
      refine lv_aload_n hX_ hB_ dX1_far_9 rfl (lv_at hl 0 rfl) ?_
      refine sd_getM E hW 4 (v := .ref (h 4)) (by decide) rfl q176 dX1_far_10 ?_
      refine lv_iload_n hX_ hB_ dX1_far_13 rfl (lv_at hl 1 rfl) ?_
      refine sd_cut (fun z : Nat => z = if i / 16 < n ∧ i % 16 < n ∧ F (i / 16) ≠ F (i % 16) then 0 else 99) (fun z => F0 m 63 ls [.int (nI z), .int (nI i), .ref (h 4)]) (fun z hz => ?_) (fun J => ?_)
      · skip
        refine sd_astM E hW 4 (by decide) (show i < 256 by omega) dX1_far_63 (fun H locs hW => ?_)
        refine sd_iinc (lv' := [(1, .int (nI (i + 1))), (0, .ref (h 0))]) hX_ hB_ dX1_far_64 hl (k := 1) rfl (by decide) rfl (fun ls hl => ?_)
        refine lv_goto (tgt := 2) hX_ hB_ dX1_far_67 (by decide) ?_
        exact ih0 _ (i + 1) (sd_up T 4 i z) H locs ls (by omega) ⟨rfl, by omega, (fun c hc => by rw [sd_up_c _ _ _ hc]; exact tc c hc), (fun j hj => by rw [sd_up_at]; split; (next e => rw [e]; exact hz); exact t3 j (by omega)), hW, lv_sub hl [1, 0] rfl⟩
      · skip
        refine lv_iload_n hX_ hB_ dX1_far_14 rfl (lv_at hl 1 rfl) ?_
        refine lv_bipush (v := nI 16) hX_ hB_ dX1_far_15 (by decide) ?_
        refine sd_idiv hX_ hB_ dX1_far_17 (by omega) (by omega) (by omega) ?_
        refine lv_aload_n hX_ hB_ dX1_far_18 rfl (lv_at hl 0 rfl) ?_
        refine sd_getM E hW 2 (v := .int (nI (T 0 2))) (by decide) rfl q174 dX1_far_19 ?_
        refine sd_icmp_ge (tgt := 61) hX_ hB_ dX1_far_22 (by decide) (by omega) (by omega) (fun c2 => ?_) (fun c2 => ?_)
        · skip
          refine lv_bipush (v := nI 99) hX_ hB_ dX1_far_61 (by decide) ?_
          exact J 99 (by rw [if_neg (by omega)])
        · skip
          refine lv_iload_n hX_ hB_ dX1_far_25 rfl (lv_at hl 1 rfl) ?_
          refine lv_bipush (v := nI 16) hX_ hB_ dX1_far_26 (by decide) ?_
          refine sd_irem hX_ hB_ dX1_far_28 (by omega) (by omega) (by omega) ?_
          refine lv_aload_n hX_ hB_ dX1_far_29 rfl (lv_at hl 0 rfl) ?_
          refine sd_getM E hW 2 (v := .int (nI (T 0 2))) (by decide) rfl q174 dX1_far_30 ?_
          refine sd_icmp_ge (tgt := 61) hX_ hB_ dX1_far_33 (by decide) (by omega) (by omega) (fun c3 => ?_) (fun c3 => ?_)
          · skip
            refine lv_bipush (v := nI 99) hX_ hB_ dX1_far_61 (by decide) ?_
            exact J 99 (by rw [if_neg (by omega)])
          · skip
            refine lv_aload_n hX_ hB_ dX1_far_36 rfl (lv_at hl 0 rfl) ?_
            refine sd_getM E hW 1 (v := .ref (h 2)) (by decide) rfl q173 dX1_far_37 ?_
            refine lv_iload_n hX_ hB_ dX1_far_40 rfl (lv_at hl 1 rfl) ?_
            refine lv_bipush (v := nI 16) hX_ hB_ dX1_far_41 (by decide) ?_
            refine sd_idiv hX_ hB_ dX1_far_43 (by omega) (by omega) (by omega) ?_
            refine sd_zald (f := T 2) E hW 2 rfl (by omega) (by decide) dX1_far_44 ?_
            rw [t2 _ (by omega)]
            refine lv_aload_n hX_ hB_ dX1_far_45 rfl (lv_at hl 0 rfl) ?_
            refine sd_getM E hW 1 (v := .ref (h 2)) (by decide) rfl q173 dX1_far_46 ?_
            refine lv_iload_n hX_ hB_ dX1_far_49 rfl (lv_at hl 1 rfl) ?_
            refine lv_bipush (v := nI 16) hX_ hB_ dX1_far_50 (by decide) ?_
            refine sd_irem hX_ hB_ dX1_far_52 (by omega) (by omega) (by omega) ?_
            refine sd_zald (f := T 2) E hW 2 rfl (by omega) (by decide) dX1_far_53 ?_
            rw [t2 _ (by omega)]
            refine sd_icmp_eq (tgt := 61) hX_ hB_ dX1_far_54 (by decide) (by split <;> decide) (by split <;> decide) (fun c4 => ?_) (fun c4 => ?_)
            · skip
              refine lv_bipush (v := nI 99) hX_ hB_ dX1_far_61 (by decide) ?_
              refine J 99 ?_
              rw [if_neg]
              rintro ⟨-, -, hne⟩
              apply hne
              revert c4
              cases F (i / 16) <;> cases F (i % 16) <;> simp
            · skip
              refine lv_iconst (v := nI 0) hX_ hB_ dX1_far_57 (by decide) ?_
              refine lv_goto (tgt := 63) hX_ hB_ dX1_far_58 (by decide) ?_
              refine J 0 ?_
              rw [if_pos]
              refine ⟨by omega, by omega, fun hne => c4 ?_⟩
              rw [hne]

set_option maxHeartbeats 4000000 in
set_option maxRecDepth 100000 in
/-- model: witness -/
theorem m_Mwitness (l : Launch) (D : va_G) (d : Nat → ClassId) (h : Nat → Nat) (S : Nat → Nat → Nat) {n : Nat} {g : Nat → Nat} {F : Nat → Bool} (hB : sd_MB n g F S) {v a : Nat} (sz : Nat) : Met l yX1_witness (ws_ yX1_witness cX1_witness 10 (some .int)) (sd_rm 2) (va_Pc [.ref (h 0), .int (nI v), .int (nI a)] (sd_P D d (sd_wM h d S) sz)) (sd_Qi D (fun (r : Int32) (u : Nat → Nat → Nat) => (∃ z, r = nI z ∧ dm_wi g F (v % 2147483648 % n) (a % 2147483648 % n) z) ∧ sd_MB n g F u) (fun u => sd_wM h d u) (va_A (sd_wM h d S) sz)) 0 0 (va_A (sd_wM h d S) sz) := by
  refine sd_ofW (Qc := sd_Qi D (fun (r : Int32) (u : Nat → Nat → Nat) => (∃ z, r = nI z ∧ dm_wi g F (v % 2147483648 % n) (a % 2147483648 % n) z) ∧ sd_MB n g F u) (fun u => sd_wM h d u)) (own := RX1) (by decide) rfl (Nat.le_of_ble_eq_true rfl) ?_
  intro p e s m below meth c ls A E hr hlk hnm hA hW hl
  have hX_ := E.1.1
  have hB_ := E.1.2.1
  have hown := E.1.2.2.2.1
  have hts := E.1.2.2.2.2
  have hl : lv_has ls 10 [(0, .ref (h 0)), (1, .int (nI v)), (2, .int (nI a))] := hl
  obtain ⟨⟨hn1, hn2, hg⟩, e0, e1, e2⟩ := id hB
  have hv1 : v % 2147483648 % n < n := Nat.mod_lt _ (by omega)
  have hv2 : a % 2147483648 % n < n := Nat.mod_lt _ (by omega)
  refine lv_aload_n hX_ hB_ dX1_witness_0 rfl (lv_at hl 0 rfl) ?_
  refine lv_iload_n hX_ hB_ dX1_witness_1 rfl (lv_at hl 1 rfl) ?_
  refine lv_iload_n hX_ hB_ dX1_witness_2 rfl (lv_at hl 2 rfl) ?_
  refine sd_callVi (y := yX1_same) (by_ := cX1_same) E hW hA [.int (nI v), .int (nI a)] rfl rfl (m_Msame l D d h S hB _) (cwV 2 hts (lw_V q235 q216 q217 q15 q218) rfl rfl rfl (by decide +kernel) ⟨Nat.le_of_ble_eq_true rfl, Nat.le_of_ble_eq_true rfl⟩) rfl (fun _ => rfl) hl.1 rfl (Nat.le_of_ble_eq_true rfl) dX1_witness_3 ⟨Nat.zero_le _, Nat.zero_le _⟩ (fun r u H locs hw hW => ?_)
  obtain ⟨rfl, hBu⟩ := hw
  refine sd_if_eq (tgt := 11) hX_ hB_ dX1_witness_6 (by decide) (by split <;> decide) (fun c1 => ?_) (fun c1 => ?_)
  · skip
    have hne : ¬ dm_eq g F (v % 2147483648 % n) (a % 2147483648 % n) := fun z => by rw [if_pos (dm_b_t.mpr z)] at c1; cases c1
    refine lv_aload_n hX_ hB_ dX1_witness_11 rfl (lv_at hl 0 rfl) ?_
    refine sd_callVv (y := yX1_far) (by_ := cX1_far) E hW hA [] rfl rfl (m_Mfar l D d h u hBu _) (cwV 0 hts (lw_V q236 q238 qs12 q15 q239) rfl rfl rfl (by decide +kernel) ⟨Nat.le_of_ble_eq_true rfl, Nat.le_of_ble_eq_true rfl⟩) rfl (fun _ => rfl) hl.1 rfl (Nat.le_of_ble_eq_true rfl) dX1_witness_12 ⟨Nat.zero_le _, Nat.zero_le _⟩ (fun t H locs hw hW => ?_)
    obtain ⟨tc, tf⟩ := hw
    have hBt := sd_MB_of hBu (fun c hc => tc c (by omega))
    have k0 : t 0 2 = n := hBt.2.1
    have k1 : 1 ≤ t 0 2 := by omega
    have k2 : t 0 2 ≤ 16 := by omega
    have tg : ∀ j, j < 32 → t 1 j = g j := hBt.2.2.1
    have te : ∀ p, p < 16 → t 2 p = if F p = true then 1 else 0 := hBt.2.2.2
    refine lv_aload_n hX_ hB_ dX1_witness_15 rfl (lv_at hl 0 rfl) ?_
    refine lv_iload_n hX_ hB_ dX1_witness_16 rfl (lv_at hl 1 rfl) ?_
    refine sd_callVi (y := yX1_at) (by_ := cX1_at) E hW hA [.int (nI v)] rfl rfl (m_at l D d h t (v := v) k1 k2 _) (cwV 1 hts (lw_V q202 q204 qs9 q15 q205) rfl rfl rfl (by decide +kernel) ⟨Nat.le_of_ble_eq_true rfl, Nat.le_of_ble_eq_true rfl⟩) rfl (fun _ => rfl) hl.1 rfl (Nat.le_of_ble_eq_true rfl) dX1_witness_17 ⟨Nat.zero_le _, Nat.zero_le _⟩ (fun r x_ H locs hw hW => ?_)
    subst hw
    rw [k0]
    refine lv_istore_n (lv' := [(3, .int (nI (v % 2147483648 % n))), (0, .ref (h 0)), (1, .int (nI v)), (2, .int (nI a))]) hX_ hB_ dX1_witness_20 rfl hl (by decide) rfl (fun ls hl => ?_)
    refine lv_aload_n hX_ hB_ dX1_witness_21 rfl (lv_at hl 1 rfl) ?_
    refine lv_iload_n hX_ hB_ dX1_witness_22 rfl (lv_at hl 3 rfl) ?_
    refine sd_callVi (y := yX1_at) (by_ := cX1_at) E hW hA [.int (nI a)] rfl rfl (m_at l D d h t (v := a) k1 k2 _) (cwV 1 hts (lw_V q202 q204 qs9 q15 q205) rfl rfl rfl (by decide +kernel) ⟨Nat.le_of_ble_eq_true rfl, Nat.le_of_ble_eq_true rfl⟩) rfl (fun _ => rfl) hl.1 rfl (Nat.le_of_ble_eq_true rfl) dX1_witness_23 ⟨Nat.zero_le _, Nat.zero_le _⟩ (fun r x_ H locs hw hW => ?_)
    subst hw
    rw [k0]
    obtain ⟨p1, ep⟩ : ∃ p1, p1 = v % 2147483648 % n := ⟨_, rfl⟩
    obtain ⟨q1, eq⟩ : ∃ q1, q1 = a % 2147483648 % n := ⟨_, rfl⟩
    refine lv_istore (lv' := [(4, .int (nI (a % 2147483648 % n))), (3, .int (nI (v % 2147483648 % n))), (0, .ref (h 0)), (1, .int (nI v)), (2, .int (nI a))]) hX_ hB_ dX1_witness_26 hl (by decide) rfl (fun ls hl => ?_)
    refine lv_iconst (v := nI 1) hX_ hB_ dX1_witness_28 (by decide) ?_
    refine lv_istore (lv' := [(5, .int (nI 1)), (4, .int (nI (a % 2147483648 % n))), (3, .int (nI (v % 2147483648 % n))), (0, .ref (h 0)), (1, .int (nI v)), (2, .int (nI a))]) hX_ hB_ dX1_witness_29 hl (by decide) rfl (fun ls hl => ?_)
    have hD0 : t 4 (16 * p1 + q1) < 99 ∧ ∀ c, 1 ≤ c → F (dm_run g p1 c) ≠ F (dm_run g q1 c) → 1 * 2 ^ t 4 (16 * p1 + q1) ≤ c := by
      rw [ep, eq]
      obtain ⟨a1, a2, a3⟩ := tf _ _ hv1 hv2
      constructor
      · have hex : ∃ d, dm_df g F (v % 2147483648 % n) (a % 2147483648 % n) d := Classical.byContradiction fun z => hne fun d hd => z ⟨d, hd⟩
        obtain ⟨d0, hd0⟩ := hex
        obtain ⟨d1, h1, hd1⟩ := dm_moore (n := n) (fun p x hp hx => hg _ (by omega)) hv1 hv2 hd0
        have := a3 d1 hd1
        omega
      · intro c hc hcne
        have h1 := Nat.log2_self_le (n := c) (by omega)
        have h2 : c < 2 ^ (c.log2 + 1) := Nat.lt_log2_self
        rw [Nat.pow_succ] at h2
        have h3 := a3 c.log2 ⟨c - 2 ^ c.log2, by omega, by rw [show 2 ^ c.log2 + (c - 2 ^ c.log2) = c by omega]; exact hcne⟩
        rw [Nat.one_mul]
        exact Nat.le_trans (Nat.pow_le_pow_right (by decide) h3) h1
    rw [← ep, ← eq]
    rw [← ep] at hl hv1
    rw [← eq] at hl hv2
    refine sd_loop3 (fun nn (x : Nat) (y : Nat) (z : Nat) H locs ls => nn = t 4 (16 * x + y) ∧ (x < n) ∧ (y < n) ∧ (1 ≤ z) ∧ (x = dm_run g p1 z) ∧ (y = dm_run g q1 z) ∧ (t 4 (16 * x + y) < 99) ∧ (∀ c, 1 ≤ c → F (dm_run g p1 c) ≠ F (dm_run g q1 c) → z * 2 ^ t 4 (16 * x + y) ≤ c) ∧ sd_W D A s.heap (sd_wM h d t) H locs ∧ lv_has ls 10 [(0, .ref (h 0)), (3, .int (nI x)), (4, .int (nI y)), (5, .int (nI z))]) (fun nn x y z H locs ls hI ih => ?_) _ p1 q1 1 _ _ _ ⟨rfl, hv1, hv2, Nat.le_refl 1, (dm_run_1 g p1).symm, (dm_run_1 g q1).symm, hD0.1, hD0.2, hW, lv_sub hl [3, 2, 1, 0] rfl⟩
    · skip
      obtain ⟨rfl, hx, hy, hz, ex, ey, hD, hmin, hW, hl⟩ := hI
      obtain ⟨a1, a2, a3⟩ := tf x y hx hy
      refine lv_aload_n hX_ hB_ dX1_witness_31 rfl (lv_at hl 0 rfl) ?_
      refine sd_getM E hW 1 (v := .ref (h 2)) (by decide) rfl q173 dX1_witness_32 ?_
      refine lv_iload_n hX_ hB_ dX1_witness_35 rfl (lv_at hl 1 rfl) ?_
      refine sd_zald (f := t 2) E hW 2 rfl (by omega) (by decide) dX1_witness_36 ?_
      rw [te _ (by omega)]
      refine lv_aload_n hX_ hB_ dX1_witness_37 rfl (lv_at hl 0 rfl) ?_
      refine sd_getM E hW 1 (v := .ref (h 2)) (by decide) rfl q173 dX1_witness_38 ?_
      refine lv_iload hX_ hB_ dX1_witness_41 (lv_at hl 2 rfl) ?_
      refine sd_zald (f := t 2) E hW 2 rfl (by omega) (by decide) dX1_witness_43 ?_
      rw [te _ (by omega)]
      refine sd_icmp_ne (tgt := 162) hX_ hB_ dX1_witness_44 (by decide) (by split <;> decide) (by split <;> decide) (fun c2 => ?_) (fun c2 => ?_)
      · skip
        refine lv_iload hX_ hB_ dX1_witness_162 (lv_at hl 3 rfl) ?_
        have hFne : F x ≠ F y := fun w => c2 (by rw [w])
        have hd0 := a3 0 (dm_df_0.mpr hFne)
        refine sd_iret E hr hlk t hW ⟨⟨z, rfl, Or.inr ⟨hz, ?_, fun c hc hlt => ?_⟩⟩, hBt⟩ dX1_witness_164
        · rw [← ex, ← ey]; exact hFne
        · apply Classical.byContradiction
          intro w
          have := hmin c hc w
          rw [show t 4 (16 * x + y) = 0 by omega] at this
          omega
      · skip
        have hFe : F x = F y := by revert c2; cases F x <;> cases F y <;> simp
        obtain ⟨D1, hD1⟩ : ∃ D1, t 4 (16 * x + y) = D1 + 1 := by
          refine ⟨t 4 (16 * x + y) - 1, ?_⟩
          rcases a2 with w | w
          · omega
          · by_cases z0 : t 4 (16 * x + y) = 0
            · rw [z0] at w; exact absurd hFe (dm_df_0.mp w)
            · omega
        have hdf : dm_df g F x y (D1 + 1) := by
          rcases a2 with w | w
          · omega
          · rw [hD1] at w; exact w
        have g0x := hg (2 * x) (by omega)
        have g0y := hg (2 * y) (by omega)
        have g1x := hg (2 * x + 1) (by omega)
        have g1y := hg (2 * y + 1) (by omega)
        obtain ⟨b1, b2, b3⟩ := tf _ _ g0x g0y
        obtain ⟨f1, f2, f3⟩ := tf _ _ g1x g1y
        have hmn : t 4 (16 * g (2 * x) + g (2 * y)) ≤ D1 ∨ t 4 (16 * g (2 * x + 1) + g (2 * y + 1)) ≤ D1 := by
          obtain ⟨w, hw, hd⟩ := dm_df_s.mp hdf
          rcases (show w = 0 ∨ w = 1 by omega) with rfl | rfl
          · exact Or.inl (b3 D1 hd)
          · exact Or.inr (f3 D1 hd)
        have hge0 : D1 ≤ t 4 (16 * g (2 * x) + g (2 * y)) := by
          rcases b2 with w | w
          · omega
          · have := a3 _ (dm_df_s.mpr ⟨0, by decide, w⟩); omega
        have hge1 : D1 ≤ t 4 (16 * g (2 * x + 1) + g (2 * y + 1)) := by
          rcases f2 with w | w
          · omega
          · have := a3 _ (dm_df_s.mpr ⟨1, by decide, w⟩); omega
        refine sd_cutH (fun (k : Nat) H locs ls => k < 2 ∧ t 4 (16 * g (2 * x + k) + g (2 * y + k)) = D1 ∧ (k = 1 → D1 < t 4 (16 * g (2 * x) + g (2 * y))) ∧ sd_W D A s.heap (sd_wM h d t) H locs ∧ lv_has ls 10 [(0, .ref (h 0)), (3, .int (nI x)), (4, .int (nI y)), (5, .int (nI z)), (6, .int (nI k))]) (fun k ls => F0 m 124 ls []) (fun k H locs ls hk => ?_) (fun J => ?_)
        · skip
          obtain ⟨hk, hkd, hk1, hW, hl⟩ := hk
          have gkx := hg (2 * x + k) (by omega)
          have gky := hg (2 * y + k) (by omega)
          refine lv_iconst (v := nI 2) hX_ hB_ dX1_witness_124 (by decide) ?_
          refine lv_iload hX_ hB_ dX1_witness_125 (lv_at hl 3 rfl) ?_
          refine sd_imul hX_ hB_ dX1_witness_127 ?_
          refine lv_iload hX_ hB_ dX1_witness_128 (lv_at hl 4 rfl) ?_
          refine sd_iadd hX_ hB_ dX1_witness_130 ?_
          refine lv_istore (lv' := [(5, .int (nI ((2 * z) + k))), (0, .ref (h 0)), (3, .int (nI x)), (4, .int (nI y)), (6, .int (nI k))]) hX_ hB_ dX1_witness_131 hl (by decide) rfl (fun ls hl => ?_)
          refine lv_aload_n hX_ hB_ dX1_witness_133 rfl (lv_at hl 1 rfl) ?_
          refine sd_getM E hW 0 (v := .ref (h 1)) (by decide) rfl q172 dX1_witness_134 ?_
          refine lv_iconst (v := nI 2) hX_ hB_ dX1_witness_137 (by decide) ?_
          refine lv_iload_n hX_ hB_ dX1_witness_138 rfl (lv_at hl 2 rfl) ?_
          refine sd_imul hX_ hB_ dX1_witness_139 ?_
          refine lv_iload hX_ hB_ dX1_witness_140 (lv_at hl 4 rfl) ?_
          refine sd_iadd hX_ hB_ dX1_witness_142 ?_
          refine sd_ald (f := t 1) E hW 1 rfl (by omega) (by decide) dX1_witness_143 ?_
          rw [tg _ (by omega)]
          refine lv_istore_n (lv' := [(3, .int (nI (g (2 * x + k)))), (5, .int (nI ((2 * z) + k))), (0, .ref (h 0)), (4, .int (nI y)), (6, .int (nI k))]) hX_ hB_ dX1_witness_144 rfl hl (by decide) rfl (fun ls hl => ?_)
          refine lv_aload_n hX_ hB_ dX1_witness_145 rfl (lv_at hl 2 rfl) ?_
          refine sd_getM E hW 0 (v := .ref (h 1)) (by decide) rfl q172 dX1_witness_146 ?_
          refine lv_iconst (v := nI 2) hX_ hB_ dX1_witness_149 (by decide) ?_
          refine lv_iload hX_ hB_ dX1_witness_150 (lv_at hl 3 rfl) ?_
          refine sd_imul hX_ hB_ dX1_witness_152 ?_
          refine lv_iload hX_ hB_ dX1_witness_153 (lv_at hl 4 rfl) ?_
          refine sd_iadd hX_ hB_ dX1_witness_155 ?_
          refine sd_ald (f := t 1) E hW 1 rfl (by omega) (by decide) dX1_witness_156 ?_
          rw [tg _ (by omega)]
          refine lv_istore (lv' := [(4, .int (nI (g (2 * y + k)))), (3, .int (nI (g (2 * x + k)))), (5, .int (nI ((2 * z) + k))), (0, .ref (h 0)), (6, .int (nI k))]) hX_ hB_ dX1_witness_157 hl (by decide) rfl (fun ls hl => ?_)
          refine lv_goto (tgt := 31) hX_ hB_ dX1_witness_159 (by decide) ?_
          have hmin2 := dm_greedy (D := D1) hz ex ey hk (fun w hd => by have := b3 D1 hd; have := hk1 w; omega) (by rw [← hD1]; exact hmin)
          exact ih _ (g (2 * x + k)) (g (2 * y + k)) (2 * z + k) H locs ls (by omega) ⟨rfl, gkx, gky, by omega, (by rw [dm_run_s g p1 hz hk, ← ex]), (by rw [dm_run_s g q1 hz hk, ← ey]), by omega, (by rw [hkd]; exact hmin2), hW, lv_sub hl [3, 1, 0, 2] rfl⟩
        · skip
          refine lv_iconst (v := -1) hX_ hB_ dX1_witness_47 (by decide) ?_
          refine lv_istore (lv' := [(6, .int (-1)), (0, .ref (h 0)), (3, .int (nI x)), (4, .int (nI y)), (5, .int (nI z))]) hX_ hB_ dX1_witness_48 hl (by decide) rfl (fun ls hl => ?_)
          refine lv_bipush (v := nI 99) hX_ hB_ dX1_witness_50 (by decide) ?_
          refine lv_istore (lv' := [(7, .int (nI 99)), (6, .int (-1)), (0, .ref (h 0)), (3, .int (nI x)), (4, .int (nI y)), (5, .int (nI z))]) hX_ hB_ dX1_witness_52 hl (by decide) rfl (fun ls hl => ?_)
          refine lv_iconst (v := nI 1) hX_ hB_ dX1_witness_54 (by decide) ?_
          refine lv_istore (lv' := [(8, .int (nI 1)), (7, .int (nI 99)), (6, .int (-1)), (0, .ref (h 0)), (3, .int (nI x)), (4, .int (nI y)), (5, .int (nI z))]) hX_ hB_ dX1_witness_55 hl (by decide) rfl (fun ls hl => ?_)
          refine lv_iload hX_ hB_ dX1_witness_57 (lv_at hl 0 rfl) ?_
          refine lv_if_lt (tgt := 124) hX_ hB_ dX1_witness_59 (by decide) (fun q => absurd q (by decide)) (fun _ => ?_)
          refine lv_aload_n hX_ hB_ dX1_witness_62 rfl (lv_at hl 3 rfl) ?_
          refine sd_getM E hW 4 (v := .ref (h 4)) (by decide) rfl q176 dX1_witness_63 ?_
          refine lv_bipush (v := nI 16) hX_ hB_ dX1_witness_66 (by decide) ?_
          refine lv_aload_n hX_ hB_ dX1_witness_68 rfl (lv_at hl 3 rfl) ?_
          refine sd_getM E hW 0 (v := .ref (h 1)) (by decide) rfl q172 dX1_witness_69 ?_
          refine lv_iconst (v := nI 2) hX_ hB_ dX1_witness_72 (by decide) ?_
          refine lv_iload_n hX_ hB_ dX1_witness_73 rfl (lv_at hl 4 rfl) ?_
          refine sd_imul hX_ hB_ dX1_witness_74 ?_
          refine lv_iload hX_ hB_ dX1_witness_75 (lv_at hl 0 rfl) ?_
          refine sd_iadd hX_ hB_ dX1_witness_77 ?_
          refine sd_ald (f := t 1) E hW 1 rfl (by omega) (by decide) dX1_witness_78 ?_
          rw [tg _ (by omega)]
          refine sd_imul hX_ hB_ dX1_witness_79 ?_
          refine lv_aload_n hX_ hB_ dX1_witness_80 rfl (lv_at hl 3 rfl) ?_
          refine sd_getM E hW 0 (v := .ref (h 1)) (by decide) rfl q172 dX1_witness_81 ?_
          refine lv_iconst (v := nI 2) hX_ hB_ dX1_witness_84 (by decide) ?_
          refine lv_iload hX_ hB_ dX1_witness_85 (lv_at hl 5 rfl) ?_
          refine sd_imul hX_ hB_ dX1_witness_87 ?_
          refine lv_iload hX_ hB_ dX1_witness_88 (lv_at hl 0 rfl) ?_
          refine sd_iadd hX_ hB_ dX1_witness_90 ?_
          refine sd_ald (f := t 1) E hW 1 rfl (by omega) (by decide) dX1_witness_91 ?_
          rw [tg _ (by omega)]
          refine sd_iadd hX_ hB_ dX1_witness_92 ?_
          refine sd_ald (f := t 4) E hW 4 rfl (by omega) (by decide) dX1_witness_93 ?_
          refine lv_istore (lv' := [(9, .int (nI (t 4 ((16 * (g (2 * x + 1))) + (g (2 * y + 1)))))), (8, .int (nI 1)), (7, .int (nI 99)), (6, .int (-1)), (0, .ref (h 0)), (3, .int (nI x)), (4, .int (nI y)), (5, .int (nI z))]) hX_ hB_ dX1_witness_94 hl (by decide) rfl (fun ls hl => ?_)
          refine lv_iload hX_ hB_ dX1_witness_96 (lv_at hl 0 rfl) ?_
          refine lv_iload hX_ hB_ dX1_witness_98 (lv_at hl 2 rfl) ?_
          refine sd_icmp_gt (tgt := 118) hX_ hB_ dX1_witness_100 (by decide) (by omega) (by omega) (fun c11 => ?_) (fun c11 => ?_)
          · skip
            omega
          · skip
            refine lv_iload hX_ hB_ dX1_witness_103 (lv_at hl 0 rfl) ?_
            refine lv_bipush (v := nI 99) hX_ hB_ dX1_witness_105 (by decide) ?_
            refine sd_icmp_ge (tgt := 118) hX_ hB_ dX1_witness_107 (by decide) (by omega) (by omega) (fun c12 => ?_) (fun c12 => ?_)
            · skip
              refine lv_iinc (v := nI 0) (lv' := [(8, .int (nI 0)), (9, .int (nI (t 4 ((16 * (g (2 * x + 1))) + (g (2 * y + 1)))))), (7, .int (nI 99)), (6, .int (-1)), (0, .ref (h 0)), (3, .int (nI x)), (4, .int (nI y)), (5, .int (nI z))]) hX_ hB_ dX1_witness_118 hl (k := 1) rfl (by decide) (by decide) rfl (fun ls hl => ?_)
              refine lv_goto (tgt := 57) hX_ hB_ dX1_witness_121 (by decide) ?_
              refine lv_iload hX_ hB_ dX1_witness_57 (lv_at hl 0 rfl) ?_
              refine lv_if_lt (tgt := 124) hX_ hB_ dX1_witness_59 (by decide) (fun q => absurd q (by decide)) (fun _ => ?_)
              refine lv_aload_n hX_ hB_ dX1_witness_62 rfl (lv_at hl 4 rfl) ?_
              refine sd_getM E hW 4 (v := .ref (h 4)) (by decide) rfl q176 dX1_witness_63 ?_
              refine lv_bipush (v := nI 16) hX_ hB_ dX1_witness_66 (by decide) ?_
              refine lv_aload_n hX_ hB_ dX1_witness_68 rfl (lv_at hl 4 rfl) ?_
              refine sd_getM E hW 0 (v := .ref (h 1)) (by decide) rfl q172 dX1_witness_69 ?_
              refine lv_iconst (v := nI 2) hX_ hB_ dX1_witness_72 (by decide) ?_
              refine lv_iload_n hX_ hB_ dX1_witness_73 rfl (lv_at hl 5 rfl) ?_
              refine sd_imul hX_ hB_ dX1_witness_74 ?_
              refine lv_iload hX_ hB_ dX1_witness_75 (lv_at hl 0 rfl) ?_
              refine sd_iadd hX_ hB_ dX1_witness_77 ?_
              refine sd_ald (f := t 1) E hW 1 rfl (by omega) (by decide) dX1_witness_78 ?_
              rw [tg _ (by omega)]
              refine sd_imul hX_ hB_ dX1_witness_79 ?_
              refine lv_aload_n hX_ hB_ dX1_witness_80 rfl (lv_at hl 4 rfl) ?_
              refine sd_getM E hW 0 (v := .ref (h 1)) (by decide) rfl q172 dX1_witness_81 ?_
              refine lv_iconst (v := nI 2) hX_ hB_ dX1_witness_84 (by decide) ?_
              refine lv_iload hX_ hB_ dX1_witness_85 (lv_at hl 6 rfl) ?_
              refine sd_imul hX_ hB_ dX1_witness_87 ?_
              refine lv_iload hX_ hB_ dX1_witness_88 (lv_at hl 0 rfl) ?_
              refine sd_iadd hX_ hB_ dX1_witness_90 ?_
              refine sd_ald (f := t 1) E hW 1 rfl (by omega) (by decide) dX1_witness_91 ?_
              rw [tg _ (by omega)]
              rw [show g (2 * x + 0) = g (2 * x) from rfl, show g (2 * y + 0) = g (2 * y) from rfl]
              refine sd_iadd hX_ hB_ dX1_witness_92 ?_
              refine sd_ald (f := t 4) E hW 4 rfl (by omega) (by decide) dX1_witness_93 ?_
              refine lv_istore (lv' := [(9, .int (nI (t 4 ((16 * g (2 * x)) + (g (2 * y)))))), (8, .int (nI 0)), (7, .int (nI 99)), (6, .int (-1)), (0, .ref (h 0)), (3, .int (nI x)), (4, .int (nI y)), (5, .int (nI z))]) hX_ hB_ dX1_witness_94 hl (by decide) rfl (fun ls hl => ?_)
              refine lv_iload hX_ hB_ dX1_witness_96 (lv_at hl 0 rfl) ?_
              refine lv_iload hX_ hB_ dX1_witness_98 (lv_at hl 2 rfl) ?_
              refine sd_icmp_gt (tgt := 118) hX_ hB_ dX1_witness_100 (by decide) (by omega) (by omega) (fun c10 => ?_) (fun c10 => ?_)
              · skip
                omega
              · skip
                refine lv_iload hX_ hB_ dX1_witness_103 (lv_at hl 0 rfl) ?_
                refine lv_bipush (v := nI 99) hX_ hB_ dX1_witness_105 (by decide) ?_
                refine sd_icmp_ge (tgt := 118) hX_ hB_ dX1_witness_107 (by decide) (by omega) (by omega) (fun c13 => ?_) (fun c13 => ?_)
                · skip
                  omega
                · skip
                  refine lv_iload hX_ hB_ dX1_witness_110 (lv_at hl 0 rfl) ?_
                  refine lv_istore (lv' := [(7, .int (nI (t 4 ((16 * g (2 * x)) + (g (2 * y)))))), (9, .int (nI (t 4 ((16 * g (2 * x)) + (g (2 * y)))))), (8, .int (nI 0)), (6, .int (-1)), (0, .ref (h 0)), (3, .int (nI x)), (4, .int (nI y)), (5, .int (nI z))]) hX_ hB_ dX1_witness_112 hl (by decide) rfl (fun ls hl => ?_)
                  refine lv_iload hX_ hB_ dX1_witness_114 (lv_at hl 2 rfl) ?_
                  refine lv_istore (lv' := [(6, .int (nI 0)), (7, .int (nI (t 4 ((16 * g (2 * x)) + (g (2 * y)))))), (9, .int (nI (t 4 ((16 * g (2 * x)) + (g (2 * y)))))), (8, .int (nI 0)), (0, .ref (h 0)), (3, .int (nI x)), (4, .int (nI y)), (5, .int (nI z))]) hX_ hB_ dX1_witness_116 hl (by decide) rfl (fun ls hl => ?_)
                  refine lv_iinc (v := -1) (lv' := [(8, .int (-1)), (6, .int (nI 0)), (7, .int (nI (t 4 ((16 * g (2 * x)) + (g (2 * y)))))), (9, .int (nI (t 4 ((16 * g (2 * x)) + (g (2 * y)))))), (0, .ref (h 0)), (3, .int (nI x)), (4, .int (nI y)), (5, .int (nI z))]) hX_ hB_ dX1_witness_118 hl (k := 3) rfl (by decide) (by decide) rfl (fun ls hl => ?_)
                  refine lv_goto (tgt := 57) hX_ hB_ dX1_witness_121 (by decide) ?_
                  refine lv_iload hX_ hB_ dX1_witness_57 (lv_at hl 0 rfl) ?_
                  refine lv_if_lt (tgt := 124) hX_ hB_ dX1_witness_59 (by decide) (fun _ => ?_) (fun q => absurd (by decide) q)
                  exact J 0 H locs ls ⟨by decide, by rw [Nat.add_zero, Nat.add_zero]; omega, fun w => by omega, hW, lv_sub hl [4, 5, 6, 7, 1] rfl⟩
            · skip
              refine lv_iload hX_ hB_ dX1_witness_110 (lv_at hl 0 rfl) ?_
              refine lv_istore (lv' := [(7, .int (nI (t 4 ((16 * (g (2 * x + 1))) + (g (2 * y + 1)))))), (9, .int (nI (t 4 ((16 * (g (2 * x + 1))) + (g (2 * y + 1)))))), (8, .int (nI 1)), (6, .int (-1)), (0, .ref (h 0)), (3, .int (nI x)), (4, .int (nI y)), (5, .int (nI z))]) hX_ hB_ dX1_witness_112 hl (by decide) rfl (fun ls hl => ?_)
              refine lv_iload hX_ hB_ dX1_witness_114 (lv_at hl 2 rfl) ?_
              refine lv_istore (lv' := [(6, .int (nI 1)), (7, .int (nI (t 4 ((16 * (g (2 * x + 1))) + (g (2 * y + 1)))))), (9, .int (nI (t 4 ((16 * (g (2 * x + 1))) + (g (2 * y + 1)))))), (8, .int (nI 1)), (0, .ref (h 0)), (3, .int (nI x)), (4, .int (nI y)), (5, .int (nI z))]) hX_ hB_ dX1_witness_116 hl (by decide) rfl (fun ls hl => ?_)
              refine lv_iinc (v := nI 0) (lv' := [(8, .int (nI 0)), (6, .int (nI 1)), (7, .int (nI (t 4 ((16 * (g (2 * x + 1))) + (g (2 * y + 1)))))), (9, .int (nI (t 4 ((16 * (g (2 * x + 1))) + (g (2 * y + 1)))))), (0, .ref (h 0)), (3, .int (nI x)), (4, .int (nI y)), (5, .int (nI z))]) hX_ hB_ dX1_witness_118 hl (k := 3) rfl (by decide) (by decide) rfl (fun ls hl => ?_)
              refine lv_goto (tgt := 57) hX_ hB_ dX1_witness_121 (by decide) ?_
              refine lv_iload hX_ hB_ dX1_witness_57 (lv_at hl 0 rfl) ?_
              refine lv_if_lt (tgt := 124) hX_ hB_ dX1_witness_59 (by decide) (fun q => absurd q (by decide)) (fun _ => ?_)
              refine lv_aload_n hX_ hB_ dX1_witness_62 rfl (lv_at hl 4 rfl) ?_
              refine sd_getM E hW 4 (v := .ref (h 4)) (by decide) rfl q176 dX1_witness_63 ?_
              refine lv_bipush (v := nI 16) hX_ hB_ dX1_witness_66 (by decide) ?_
              refine lv_aload_n hX_ hB_ dX1_witness_68 rfl (lv_at hl 4 rfl) ?_
              refine sd_getM E hW 0 (v := .ref (h 1)) (by decide) rfl q172 dX1_witness_69 ?_
              refine lv_iconst (v := nI 2) hX_ hB_ dX1_witness_72 (by decide) ?_
              refine lv_iload_n hX_ hB_ dX1_witness_73 rfl (lv_at hl 5 rfl) ?_
              refine sd_imul hX_ hB_ dX1_witness_74 ?_
              refine lv_iload hX_ hB_ dX1_witness_75 (lv_at hl 0 rfl) ?_
              refine sd_iadd hX_ hB_ dX1_witness_77 ?_
              refine sd_ald (f := t 1) E hW 1 rfl (by omega) (by decide) dX1_witness_78 ?_
              rw [tg _ (by omega)]
              refine sd_imul hX_ hB_ dX1_witness_79 ?_
              refine lv_aload_n hX_ hB_ dX1_witness_80 rfl (lv_at hl 4 rfl) ?_
              refine sd_getM E hW 0 (v := .ref (h 1)) (by decide) rfl q172 dX1_witness_81 ?_
              refine lv_iconst (v := nI 2) hX_ hB_ dX1_witness_84 (by decide) ?_
              refine lv_iload hX_ hB_ dX1_witness_85 (lv_at hl 6 rfl) ?_
              refine sd_imul hX_ hB_ dX1_witness_87 ?_
              refine lv_iload hX_ hB_ dX1_witness_88 (lv_at hl 0 rfl) ?_
              refine sd_iadd hX_ hB_ dX1_witness_90 ?_
              refine sd_ald (f := t 1) E hW 1 rfl (by omega) (by decide) dX1_witness_91 ?_
              rw [tg _ (by omega)]
              rw [show g (2 * x + 0) = g (2 * x) from rfl, show g (2 * y + 0) = g (2 * y) from rfl]
              refine sd_iadd hX_ hB_ dX1_witness_92 ?_
              refine sd_ald (f := t 4) E hW 4 rfl (by omega) (by decide) dX1_witness_93 ?_
              refine lv_istore (lv' := [(9, .int (nI (t 4 ((16 * g (2 * x)) + (g (2 * y)))))), (8, .int (nI 0)), (6, .int (nI 1)), (7, .int (nI (t 4 ((16 * (g (2 * x + 1))) + (g (2 * y + 1)))))), (0, .ref (h 0)), (3, .int (nI x)), (4, .int (nI y)), (5, .int (nI z))]) hX_ hB_ dX1_witness_94 hl (by decide) rfl (fun ls hl => ?_)
              refine lv_iload hX_ hB_ dX1_witness_96 (lv_at hl 0 rfl) ?_
              refine lv_iload hX_ hB_ dX1_witness_98 (lv_at hl 3 rfl) ?_
              refine sd_icmp_gt (tgt := 118) hX_ hB_ dX1_witness_100 (by decide) (by omega) (by omega) (fun c10 => ?_) (fun c10 => ?_)
              · skip
                refine lv_iinc (v := -1) (lv' := [(8, .int (-1)), (9, .int (nI (t 4 ((16 * g (2 * x)) + (g (2 * y)))))), (6, .int (nI 1)), (7, .int (nI (t 4 ((16 * (g (2 * x + 1))) + (g (2 * y + 1)))))), (0, .ref (h 0)), (3, .int (nI x)), (4, .int (nI y)), (5, .int (nI z))]) hX_ hB_ dX1_witness_118 hl (k := 1) rfl (by decide) (by decide) rfl (fun ls hl => ?_)
                refine lv_goto (tgt := 57) hX_ hB_ dX1_witness_121 (by decide) ?_
                refine lv_iload hX_ hB_ dX1_witness_57 (lv_at hl 0 rfl) ?_
                refine lv_if_lt (tgt := 124) hX_ hB_ dX1_witness_59 (by decide) (fun _ => ?_) (fun q => absurd (by decide) q)
                exact J 1 H locs ls ⟨by decide, by omega, fun _ => by omega, hW, lv_sub hl [4, 5, 6, 7, 2] rfl⟩
              · skip
                refine lv_iload hX_ hB_ dX1_witness_103 (lv_at hl 0 rfl) ?_
                refine lv_bipush (v := nI 99) hX_ hB_ dX1_witness_105 (by decide) ?_
                refine sd_icmp_ge (tgt := 118) hX_ hB_ dX1_witness_107 (by decide) (by omega) (by omega) (fun c14 => ?_) (fun c14 => ?_)
                · skip
                  omega
                · skip
                  refine lv_iload hX_ hB_ dX1_witness_110 (lv_at hl 0 rfl) ?_
                  refine lv_istore (lv' := [(7, .int (nI (t 4 ((16 * g (2 * x)) + (g (2 * y)))))), (9, .int (nI (t 4 ((16 * g (2 * x)) + (g (2 * y)))))), (8, .int (nI 0)), (6, .int (nI 1)), (0, .ref (h 0)), (3, .int (nI x)), (4, .int (nI y)), (5, .int (nI z))]) hX_ hB_ dX1_witness_112 hl (by decide) rfl (fun ls hl => ?_)
                  refine lv_iload hX_ hB_ dX1_witness_114 (lv_at hl 2 rfl) ?_
                  refine lv_istore (lv' := [(6, .int (nI 0)), (7, .int (nI (t 4 ((16 * g (2 * x)) + (g (2 * y)))))), (9, .int (nI (t 4 ((16 * g (2 * x)) + (g (2 * y)))))), (8, .int (nI 0)), (0, .ref (h 0)), (3, .int (nI x)), (4, .int (nI y)), (5, .int (nI z))]) hX_ hB_ dX1_witness_116 hl (by decide) rfl (fun ls hl => ?_)
                  refine lv_iinc (v := -1) (lv' := [(8, .int (-1)), (6, .int (nI 0)), (7, .int (nI (t 4 ((16 * g (2 * x)) + (g (2 * y)))))), (9, .int (nI (t 4 ((16 * g (2 * x)) + (g (2 * y)))))), (0, .ref (h 0)), (3, .int (nI x)), (4, .int (nI y)), (5, .int (nI z))]) hX_ hB_ dX1_witness_118 hl (k := 3) rfl (by decide) (by decide) rfl (fun ls hl => ?_)
                  refine lv_goto (tgt := 57) hX_ hB_ dX1_witness_121 (by decide) ?_
                  refine lv_iload hX_ hB_ dX1_witness_57 (lv_at hl 0 rfl) ?_
                  refine lv_if_lt (tgt := 124) hX_ hB_ dX1_witness_59 (by decide) (fun _ => ?_) (fun q => absurd (by decide) q)
                  exact J 0 H locs ls ⟨by decide, by rw [Nat.add_zero, Nat.add_zero]; omega, fun w => by omega, hW, lv_sub hl [4, 5, 6, 7, 1] rfl⟩
  · skip
    refine lv_iconst (v := nI 0) hX_ hB_ dX1_witness_9 (by decide) ?_
    refine sd_iret E hr hlk u hW ⟨⟨0, rfl, Or.inl ⟨rfl, Classical.byContradiction fun z => c1 ?_⟩⟩, hBu⟩ dX1_witness_10
    rw [if_neg (fun q => z (dm_b_t.mp q))]
end
section
set_option maxHeartbeats 4000000 in
set_option maxRecDepth 100000 in
/-- model: words -/
theorem m_Mwords (l : Launch) (D : va_G) (d : Nat → ClassId) (h : Nat → Nat) (S : Nat → Nat → Nat) {n : Nat} {g : Nat → Nat} {F : Nat → Bool} (hB : sd_MB n g F S) {v a : Nat} (sz : Nat) : Met l yX1_words (ws_ yX1_words cX1_words 6 (some .long)) (sd_rm 1) (va_Pc [.ref (h 0), .int (nI v), .int (nI a)] (sd_P D d (sd_wM h d S) sz)) (sd_Ql D (fun (r : Int64) (u : Nat → Nat → Nat) => r = lN (dm_wd g F (a % 32) (v % 2147483648 % n)) ∧ sd_MB n g F u) (fun u => sd_wM h d u) (va_A (sd_wM h d S) sz)) 0 0 (va_A (sd_wM h d S) sz) := by
  refine sd_ofW (Qc := sd_Ql D (fun (r : Int64) (u : Nat → Nat → Nat) => r = lN (dm_wd g F (a % 32) (v % 2147483648 % n)) ∧ sd_MB n g F u) (fun u => sd_wM h d u)) (own := RX1) (by decide) rfl (Nat.le_of_ble_eq_true rfl) ?_
  intro p e s m below meth c ls A E hr hlk hnm hA hW hl
  have hX_ := E.1.1
  have hB_ := E.1.2.1
  have hown := E.1.2.2.2.1
  have hts := E.1.2.2.2.2
  have hl : lv_has ls 6 [(0, .ref (h 0)), (1, .int (nI v)), (2, .int (nI a))] := hl
  obtain ⟨⟨hn1, hn2, hg⟩, e0, e1, e2⟩ := id hB
  refine lv_iload_n hX_ hB_ dX1_words_0 rfl (lv_at hl 2 rfl) ?_
  refine lv_bipush (v := nI 31) hX_ hB_ dX1_words_1 (by decide) ?_
  refine sd_iandE (sd_and31 _) hX_ hB_ dX1_words_3 ?_
  refine lv_istore_n (lv' := [(3, .int (nI (a % 32))), (0, .ref (h 0)), (1, .int (nI v)), (2, .int (nI a))]) hX_ hB_ dX1_words_4 rfl hl (by decide) rfl (fun ls hl => ?_)
  refine lv_iconst (v := nI 0) hX_ hB_ dX1_words_5 (by decide) ?_
  refine lv_istore (lv' := [(4, .int (nI 0)), (3, .int (nI (a % 32))), (0, .ref (h 0)), (1, .int (nI v)), (2, .int (nI a))]) hX_ hB_ dX1_words_6 hl (by decide) rfl (fun ls hl => ?_)
  refine sd_loop2 (fun nn (i : Nat) (T : Nat → Nat → Nat) H locs ls => nn = 16 - i ∧ (i ≤ 16) ∧ (∀ c, c ≠ 5 → c ≠ 6 → T c = S c) ∧ (∀ j, j < i → T 5 j = if j < n ∧ F j = true then 1 else 0) ∧ sd_W D A s.heap (sd_wM h d T) H locs ∧ lv_has ls 6 [(0, .ref (h 0)), (1, .int (nI v)), (3, .int (nI (a % 32))), (4, .int (nI i))]) (fun nn i T H locs ls hI ih0 => ?_) _ 0 S _ _ _ ⟨rfl, Nat.zero_le _, (fun _ _ _ => rfl), (fun j hj => absurd hj (Nat.not_lt_zero j)), hW, lv_sub hl [2, 3, 1, 0] rfl⟩
  · skip
    obtain ⟨rfl, hi, tc, t5, hW, hl⟩ := hI
    have t0 : T 0 2 = n := by rw [tc 0 (by decide) (by decide)]; exact e0
    have t1 : ∀ j, j < 32 → T 1 j = g j := by rw [tc 1 (by decide) (by decide)]; exact e1
    have t2 : ∀ p, p < 16 → T 2 p = if F p = true then 1 else 0 := by rw [tc 2 (by decide) (by decide)]; exact e2
    refine lv_iload hX_ hB_ dX1_words_8 (lv_at hl 3 rfl) ?_
    refine lv_bipush (v := nI 16) hX_ hB_ dX1_words_10 (by decide) ?_
    refine sd_icmp_ge (tgt := 52) hX_ hB_ dX1_words_12 (by decide) (by omega) (by omega) (fun c1 => ?_) (fun c1 => ?_)
    · skip
      have hwd : ∀ p, p < n → T 5 p = dm_wd g F 0 p := fun p hp => by rw [t5 p (by omega)]; simp [dm_wd, hp]
      refine lv_iconst (v := nI 0) hX_ hB_ dX1_words_52 (by decide) ?_
      refine lv_istore (lv' := [(4, .int (nI 0)), (0, .ref (h 0)), (1, .int (nI v)), (3, .int (nI (a % 32)))]) hX_ hB_ dX1_words_53 hl (by decide) rfl (fun ls hl => ?_)
      refine sd_loop2 (fun nn (k : Nat) (T : Nat → Nat → Nat) H locs ls => nn = 32 - k ∧ (k ≤ a % 32) ∧ (∀ c, c ≠ 5 → c ≠ 6 → T c = S c) ∧ (∀ p, p < n → T 5 p = dm_wd g F k p) ∧ sd_W D A s.heap (sd_wM h d T) H locs ∧ lv_has ls 6 [(0, .ref (h 0)), (1, .int (nI v)), (3, .int (nI (a % 32))), (4, .int (nI k))]) (fun nn k T H locs ls hI ih1 => ?_) _ 0 T _ _ _ ⟨rfl, Nat.zero_le _, tc, hwd, hW, lv_sub hl [1, 2, 3, 0] rfl⟩
      · skip
        obtain ⟨rfl, hk, tc, hwd, hW, hl⟩ := hI
        have t0 : T 0 2 = n := by rw [tc 0 (by decide) (by decide)]; exact e0
        have t1 : ∀ j, j < 32 → T 1 j = g j := by rw [tc 1 (by decide) (by decide)]; exact e1
        have t2 : ∀ p, p < 16 → T 2 p = if F p = true then 1 else 0 := by rw [tc 2 (by decide) (by decide)]; exact e2
        refine lv_iload hX_ hB_ dX1_words_55 (lv_at hl 3 rfl) ?_
        refine lv_iload_n hX_ hB_ dX1_words_57 rfl (lv_at hl 2 rfl) ?_
        refine sd_icmp_ge (tgt := 155) hX_ hB_ dX1_words_58 (by decide) (by omega) (by omega) (fun c2 => ?_) (fun c2 => ?_)
        · skip
          refine lv_aload_n hX_ hB_ dX1_words_155 rfl (lv_at hl 0 rfl) ?_
          refine sd_getM E hW 5 (v := .ref (h 5)) (by decide) rfl q177 dX1_words_156 ?_
          refine lv_aload_n hX_ hB_ dX1_words_159 rfl (lv_at hl 0 rfl) ?_
          refine lv_iload_n hX_ hB_ dX1_words_160 rfl (lv_at hl 1 rfl) ?_
          have k1 : 1 ≤ T 0 2 := by omega
          have k2 : T 0 2 ≤ 16 := by omega
          refine sd_callVi (y := yX1_at) (by_ := cX1_at) E hW hA [.int (nI v)] rfl rfl (m_at l D d h T (v := v) k1 k2 _) (cwV 1 hts (lw_V q202 q204 qs9 q15 q205) rfl rfl rfl (by decide +kernel) ⟨Nat.le_of_ble_eq_true rfl, Nat.le_of_ble_eq_true rfl⟩) rfl (fun _ => rfl) hl.1 rfl (Nat.le_of_ble_eq_true rfl) dX1_words_161 ⟨Nat.zero_le _, Nat.zero_le _⟩ (fun r x_ H locs hw hW => ?_)
          subst hw
          rw [t0]
          have hv1 : v % 2147483648 % n < n := Nat.mod_lt _ (by omega)
          refine sd_lald (f := T 5) E hW 5 rfl (by omega) (by decide) dX1_words_164 ?_
          rw [hwd _ hv1, show k = a % 32 by omega]
          exact sd_lret E hr hlk T hW ⟨rfl, sd_MB_of hB (fun c hc => tc c (by omega) (by omega))⟩ dX1_words_165
        · skip
          refine lv_iconst (v := nI 0) hX_ hB_ dX1_words_61 (by decide) ?_
          refine lv_istore (lv' := [(5, .int (nI 0)), (0, .ref (h 0)), (1, .int (nI v)), (3, .int (nI (a % 32))), (4, .int (nI k))]) hX_ hB_ dX1_words_62 hl (by decide) rfl (fun ls hl => ?_)
          refine sd_loop2 (fun nn (i : Nat) (T : Nat → Nat → Nat) H locs ls => nn = 16 - i ∧ (i ≤ n) ∧ (∀ c, c ≠ 5 → c ≠ 6 → T c = S c) ∧ (∀ p, p < n → T 5 p = dm_wd g F k p) ∧ (∀ j, j < i → T 6 j = dm_wd g F (k + 1) j) ∧ sd_W D A s.heap (sd_wM h d T) H locs ∧ lv_has ls 6 [(0, .ref (h 0)), (1, .int (nI v)), (3, .int (nI (a % 32))), (4, .int (nI k)), (5, .int (nI i))]) (fun nn i T H locs ls hI ih2 => ?_) _ 0 T _ _ _ ⟨rfl, Nat.zero_le _, tc, hwd, (fun j hj => absurd hj (Nat.not_lt_zero j)), hW, lv_sub hl [1, 2, 3, 4, 0] rfl⟩
          · skip
            obtain ⟨rfl, hi, tc, hwd, hnx, hW, hl⟩ := hI
            have t0 : T 0 2 = n := by rw [tc 0 (by decide) (by decide)]; exact e0
            have t1 : ∀ j, j < 32 → T 1 j = g j := by rw [tc 1 (by decide) (by decide)]; exact e1
            have t2 : ∀ p, p < 16 → T 2 p = if F p = true then 1 else 0 := by rw [tc 2 (by decide) (by decide)]; exact e2
            refine lv_iload hX_ hB_ dX1_words_64 (lv_at hl 4 rfl) ?_
            refine lv_aload_n hX_ hB_ dX1_words_66 rfl (lv_at hl 0 rfl) ?_
            refine sd_getM E hW 2 (v := .int (nI (T 0 2))) (by decide) rfl q174 dX1_words_67 ?_
            refine sd_icmp_ge (tgt := 117) hX_ hB_ dX1_words_70 (by decide) (by omega) (by omega) (fun c3 => ?_) (fun c3 => ?_)
            · skip
              refine lv_iconst (v := nI 0) hX_ hB_ dX1_words_117 (by decide) ?_
              refine lv_istore (lv' := [(5, .int (nI 0)), (0, .ref (h 0)), (1, .int (nI v)), (3, .int (nI (a % 32))), (4, .int (nI k))]) hX_ hB_ dX1_words_118 hl (by decide) rfl (fun ls hl => ?_)
              have hnn : ∀ j, j < n → T 6 j = dm_wd g F (k + 1) j := fun j hj => hnx j (by omega)
              refine sd_loop2 (fun nn (i : Nat) (T : Nat → Nat → Nat) H locs ls => nn = 16 - i ∧ (i ≤ n) ∧ (∀ c, c ≠ 5 → c ≠ 6 → T c = S c) ∧ (∀ j, j < n → T 6 j = dm_wd g F (k + 1) j) ∧ (∀ j, j < i → T 5 j = dm_wd g F (k + 1) j) ∧ sd_W D A s.heap (sd_wM h d T) H locs ∧ lv_has ls 6 [(0, .ref (h 0)), (1, .int (nI v)), (3, .int (nI (a % 32))), (4, .int (nI k)), (5, .int (nI i))]) (fun nn i T H locs ls hI ih3 => ?_) _ 0 T _ _ _ ⟨rfl, Nat.zero_le _, tc, hnn, (fun j hj => absurd hj (Nat.not_lt_zero j)), hW, lv_sub hl [1, 2, 3, 4, 0] rfl⟩
              · skip
                obtain ⟨rfl, hi, tc, hnn, hw5, hW, hl⟩ := hI
                have t0 : T 0 2 = n := by rw [tc 0 (by decide) (by decide)]; exact e0
                have t1 : ∀ j, j < 32 → T 1 j = g j := by rw [tc 1 (by decide) (by decide)]; exact e1
                have t2 : ∀ p, p < 16 → T 2 p = if F p = true then 1 else 0 := by rw [tc 2 (by decide) (by decide)]; exact e2
                refine lv_iload hX_ hB_ dX1_words_120 (lv_at hl 4 rfl) ?_
                refine lv_aload_n hX_ hB_ dX1_words_122 rfl (lv_at hl 0 rfl) ?_
                refine sd_getM E hW 2 (v := .int (nI (T 0 2))) (by decide) rfl q174 dX1_words_123 ?_
                refine sd_icmp_ge (tgt := 149) hX_ hB_ dX1_words_126 (by decide) (by omega) (by omega) (fun c4 => ?_) (fun c4 => ?_)
                · skip
                  refine sd_iinc (lv' := [(4, .int (nI (k + 1))), (0, .ref (h 0)), (1, .int (nI v)), (3, .int (nI (a % 32))), (5, .int (nI i))]) hX_ hB_ dX1_words_149 hl (k := 3) rfl (by decide) rfl (fun ls hl => ?_)
                  refine lv_goto (tgt := 55) hX_ hB_ dX1_words_152 (by decide) ?_
                  exact ih1 _ (k + 1) T H locs ls (by omega) ⟨rfl, by omega, tc, (fun p hp => hw5 p (by omega)), hW, lv_sub hl [1, 2, 3, 0] rfl⟩
                · skip
                  refine lv_aload_n hX_ hB_ dX1_words_129 rfl (lv_at hl 0 rfl) ?_
                  refine sd_getM E hW 5 (v := .ref (h 5)) (by decide) rfl q177 dX1_words_130 ?_
                  refine lv_iload hX_ hB_ dX1_words_133 (lv_at hl 4 rfl) ?_
                  refine lv_aload_n hX_ hB_ dX1_words_135 rfl (lv_at hl 0 rfl) ?_
                  refine sd_getM E hW 6 (v := .ref (h 6)) (by decide) rfl q178 dX1_words_136 ?_
                  refine lv_iload hX_ hB_ dX1_words_139 (lv_at hl 4 rfl) ?_
                  refine sd_lald (f := T 6) E hW 6 rfl (by omega) (by decide) dX1_words_141 ?_
                  rw [hnn i (by omega)]
                  refine sd_lastM E hW 5 (by decide) (show i < 16 by omega) dX1_words_142 (fun H locs hW => ?_)
                  refine sd_iinc (lv' := [(5, .int (nI (i + 1))), (0, .ref (h 0)), (1, .int (nI v)), (3, .int (nI (a % 32))), (4, .int (nI k))]) hX_ hB_ dX1_words_143 hl (k := 4) rfl (by decide) rfl (fun ls hl => ?_)
                  refine lv_goto (tgt := 120) hX_ hB_ dX1_words_146 (by decide) ?_
                  exact ih3 _ (i + 1) (sd_up T 5 i (dm_wd g F (k + 1) i)) H locs ls (by omega) ⟨rfl, by omega, (fun c h5 h6 => by rw [sd_up_c _ _ _ h5]; exact tc c h5 h6), (fun j hj => by rw [sd_up_c _ _ _ (by decide)]; exact hnn j hj), (fun j hj => by rw [sd_up_at]; split; (next e => rw [e]); exact hw5 j (by omega)), hW, lv_sub hl [1, 2, 3, 4, 0] rfl⟩
            · skip
              have g1 := hg (2 * i) (by omega)
              have g2 := hg (2 * i + 1) (by omega)
              refine lv_aload_n hX_ hB_ dX1_words_73 rfl (lv_at hl 0 rfl) ?_
              refine sd_getM E hW 6 (v := .ref (h 6)) (by decide) rfl q178 dX1_words_74 ?_
              refine lv_iload hX_ hB_ dX1_words_77 (lv_at hl 4 rfl) ?_
              refine lv_aload_n hX_ hB_ dX1_words_79 rfl (lv_at hl 0 rfl) ?_
              refine sd_getM E hW 5 (v := .ref (h 5)) (by decide) rfl q177 dX1_words_80 ?_
              refine lv_aload_n hX_ hB_ dX1_words_83 rfl (lv_at hl 0 rfl) ?_
              refine sd_getM E hW 0 (v := .ref (h 1)) (by decide) rfl q172 dX1_words_84 ?_
              refine lv_iconst (v := nI 2) hX_ hB_ dX1_words_87 (by decide) ?_
              refine lv_iload hX_ hB_ dX1_words_88 (lv_at hl 4 rfl) ?_
              refine sd_imul hX_ hB_ dX1_words_90 ?_
              refine sd_ald (f := T 1) E hW 1 rfl (by omega) (by decide) dX1_words_91 ?_
              rw [t1 _ (by omega)]
              refine sd_lald (f := T 5) E hW 5 rfl (by omega) (by decide) dX1_words_92 ?_
              rw [hwd _ g1]
              refine lv_aload_n hX_ hB_ dX1_words_93 rfl (lv_at hl 0 rfl) ?_
              refine sd_getM E hW 5 (v := .ref (h 5)) (by decide) rfl q177 dX1_words_94 ?_
              refine lv_aload_n hX_ hB_ dX1_words_97 rfl (lv_at hl 0 rfl) ?_
              refine sd_getM E hW 0 (v := .ref (h 1)) (by decide) rfl q172 dX1_words_98 ?_
              refine lv_iconst (v := nI 2) hX_ hB_ dX1_words_101 (by decide) ?_
              refine lv_iload hX_ hB_ dX1_words_102 (lv_at hl 4 rfl) ?_
              refine sd_imul hX_ hB_ dX1_words_104 ?_
              refine lv_iconst (v := nI 1) hX_ hB_ dX1_words_105 (by decide) ?_
              refine sd_iadd hX_ hB_ dX1_words_106 ?_
              refine sd_ald (f := T 1) E hW 1 rfl (by omega) (by decide) dX1_words_107 ?_
              rw [t1 _ (by omega)]
              refine sd_lald (f := T 5) E hW 5 rfl (by omega) (by decide) dX1_words_108 ?_
              rw [hwd _ g2]
              refine sd_ladd hX_ hB_ dX1_words_109 ?_
              refine sd_lastM E hW 6 (by decide) (show i < 16 by omega) dX1_words_110 (fun H locs hW => ?_)
              refine sd_iinc (lv' := [(5, .int (nI (i + 1))), (0, .ref (h 0)), (1, .int (nI v)), (3, .int (nI (a % 32))), (4, .int (nI k))]) hX_ hB_ dX1_words_111 hl (k := 4) rfl (by decide) rfl (fun ls hl => ?_)
              refine lv_goto (tgt := 64) hX_ hB_ dX1_words_114 (by decide) ?_
              exact ih2 _ (i + 1) (sd_up T 6 i (dm_wd g F k (g (2 * i)) + dm_wd g F k (g (2 * i + 1)))) H locs ls (by omega) ⟨rfl, by omega, (fun c h5 h6 => by rw [sd_up_c _ _ _ h6]; exact tc c h5 h6), (fun j hj => by rw [sd_up_c _ _ _ (by decide)]; exact hwd j hj), (fun j hj => by rw [sd_up_at]; split; (next e => rw [e]; rfl); exact hnx j (by omega)), hW, lv_sub hl [1, 2, 3, 4, 0] rfl⟩
    · skip
      refine lv_aload_n hX_ hB_ dX1_words_15 rfl (lv_at hl 0 rfl) ?_
      refine sd_getM E hW 5 (v := .ref (h 5)) (by decide) rfl q177 dX1_words_16 ?_
      refine lv_iload hX_ hB_ dX1_words_19 (lv_at hl 3 rfl) ?_
      refine sd_cut (fun z : Nat => z = if i < n ∧ F i = true then 1 else 0) (fun z => F0 m 45 ls [.long (lN z), .int (nI i), .ref (h 5)]) (fun z hz => ?_) (fun J => ?_)
      · skip
        refine sd_lastM E hW 5 (by decide) (show i < 16 by omega) dX1_words_45 (fun H locs hW => ?_)
        refine sd_iinc (lv' := [(4, .int (nI (i + 1))), (0, .ref (h 0)), (1, .int (nI v)), (3, .int (nI (a % 32)))]) hX_ hB_ dX1_words_46 hl (k := 3) rfl (by decide) rfl (fun ls hl => ?_)
        refine lv_goto (tgt := 8) hX_ hB_ dX1_words_49 (by decide) ?_
        exact ih0 _ (i + 1) (sd_up T 5 i z) H locs ls (by omega) ⟨rfl, by omega, (fun c h5 h6 => by rw [sd_up_c _ _ _ h5]; exact tc c h5 h6), (fun j hj => by rw [sd_up_at]; split; (next e => rw [e]; exact hz); exact t5 j (by omega)), hW, lv_sub hl [1, 2, 3, 0] rfl⟩
      · skip
        refine lv_iload hX_ hB_ dX1_words_21 (lv_at hl 3 rfl) ?_
        refine lv_aload_n hX_ hB_ dX1_words_23 rfl (lv_at hl 0 rfl) ?_
        refine sd_getM E hW 2 (v := .int (nI (T 0 2))) (by decide) rfl q174 dX1_words_24 ?_
        refine sd_icmp_ge (tgt := 44) hX_ hB_ dX1_words_27 (by decide) (by omega) (by omega) (fun c5 => ?_) (fun c5 => ?_)
        · skip
          refine lv_lconst (v := lN 0) hX_ hB_ dX1_words_44 rfl ?_
          exact J 0 (by rw [if_neg (by omega)])
        · skip
          refine lv_aload_n hX_ hB_ dX1_words_30 rfl (lv_at hl 0 rfl) ?_
          refine sd_getM E hW 1 (v := .ref (h 2)) (by decide) rfl q173 dX1_words_31 ?_
          refine lv_iload hX_ hB_ dX1_words_34 (lv_at hl 3 rfl) ?_
          refine sd_zald (f := T 2) E hW 2 rfl (by omega) (by decide) dX1_words_36 ?_
          rw [t2 _ (by omega)]
          refine sd_if_eq (tgt := 44) hX_ hB_ dX1_words_37 (by decide) (by split <;> decide) (fun c6 => ?_) (fun c6 => ?_)
          · skip
            refine lv_lconst (v := lN 0) hX_ hB_ dX1_words_44 rfl ?_
            refine J 0 ?_
            rw [if_neg]
            rintro ⟨-, hF⟩
            rw [if_pos hF] at c6
            cases c6
          · skip
            refine lv_lconst (v := lN 1) hX_ hB_ dX1_words_40 rfl ?_
            refine lv_goto (tgt := 45) hX_ hB_ dX1_words_41 (by decide) ?_
            refine J 1 ?_
            rw [if_pos]
            refine ⟨by omega, Classical.byContradiction fun z => c6 ?_⟩
            rw [if_neg z]
end
section
/-! StateDesk: what its object holds -/
/-- the least machine: kinds of states, where letters lead, which are ends -/
def sd_quo (n : Nat) (g : Nat → Nat) (F : Nat → Bool) (S : Nat → Nat → Nat) : Prop := S 0 6 ≤ 16 ∧ (∀ p, p < n → S 2 p < S 0 6) ∧ (∀ k, k < S 0 6 → ∃ p, p < n ∧ S 2 p = k) ∧ (∀ p x, p < n → x < 2 → S 3 (2 * S 2 p + x) = S 2 (g (2 * p + x))) ∧ S 0 7 < 2 ^ 16 ∧ (∀ p, p < n → (S 0 7).testBit (S 2 p) = F p) ∧ ∀ p q, p < n → q < n → (S 2 p = S 2 q ↔ dm_eq g F p q)
def sd_XI (n : Nat) (g : Nat → Nat) (F : Nat → Bool) (S : Nat → Nat → Nat) : Prop := sd_XB n g F S ∧ S 0 3 < 2 ∧ (S 0 3 = 1 → sd_quo n g F S)
def sd_XQ (n : Nat) (g : Nat → Nat) (F : Nat → Bool) (S : Nat → Nat → Nat) : Prop := sd_XB n g F S ∧ S 0 3 = 1 ∧ sd_quo n g F S
theorem sd_XQ.i {n : Nat} {g : Nat → Nat} {F : Nat → Bool} {S : Nat → Nat → Nat} (h : sd_XQ n g F S) : sd_XI n g F S := ⟨h.1, by rw [h.2.1]; decide, fun _ => h.2.2⟩
theorem sd_orx (a : Nat) {x : Nat} (hx : x < 2) : 2 * a ||| x = 2 * a + x := by
  have h := Nat.two_pow_add_eq_or_of_lt (i := 1) (b := x) (by omega) a
  rw [Nat.pow_one] at h
  exact h.symm
theorem sd_no_lt {a b n : Nat} (ha : a < 2 ^ n) : sd_no a b < 2 ^ n := Nat.xor_lt_two_pow ha (Nat.lt_of_le_of_lt Nat.and_le_left ha)
/-- waiting -/
def sd_in (S : Nat → Nat → Nat) (v : Nat) : Prop := ∃ i, i < S 0 11 ∧ S 5 i = v
def sd_nd (S : Nat → Nat → Nat) : Prop := ∀ i j, i < S 0 11 → j < S 0 11 → S 5 i = S 5 j → i = j

set_option maxHeartbeats 4000000 in
set_option maxRecDepth 100000 in
/-- states -/
theorem m_Xstates (l : Launch) (D : va_G) (d : Nat → ClassId) (h : Nat → Nat) (S : Nat → Nat → Nat) {v : Nat} (sz : Nat) : Met l yX0_states (ws_ yX0_states cX0_states 2 none) (sd_rm 1) (va_Pc [.ref (h 0), .int (nI v)] (sd_P D d (sd_wX h d S) sz)) (sd_Qv D (fun u : Nat → Nat → Nat => sd_XI (1 + v % 16) (fun _ => 0) (fun _ => false) u) (fun u => sd_wX h d u) (va_A (sd_wX h d S) sz)) 0 0 (va_A (sd_wX h d S) sz) := by
  refine sd_ofW (Qc := sd_Qv D (fun u : Nat → Nat → Nat => sd_XI (1 + v % 16) (fun _ => 0) (fun _ => false) u) (fun u => sd_wX h d u)) (own := RX0) (by decide) rfl (Nat.le_of_ble_eq_true rfl) ?_
  intro p e s m below meth c ls A E hr hlk hnm hA hW hl
  have hX_ := E.1.1
  have hB_ := E.1.2.1
  have hown := E.1.2.2.2.1
  have hts := E.1.2.2.2.2
  have hl : lv_has ls 2 [(0, .ref (h 0)), (1, .int (nI v))] := hl
  refine lv_aload_n hX_ hB_ dX0_states_0 rfl (lv_at hl 0 rfl) ?_
  refine lv_iconst (v := nI 1) hX_ hB_ dX0_states_1 (by decide) ?_
  refine lv_iload_n hX_ hB_ dX0_states_2 rfl (lv_at hl 1 rfl) ?_
  refine lv_bipush (v := nI 15) hX_ hB_ dX0_states_3 (by decide) ?_
  refine sd_iandE (sd_and15 _) hX_ hB_ dX0_states_5 ?_
  refine sd_iadd hX_ hB_ dX0_states_6 ?_
  refine sd_putX E hW 0 (by decide) rfl rfl q27 dX0_states_7 (fun H locs hW => ?_)
  refine lv_aload_n hX_ hB_ dX0_states_10 rfl (lv_at hl 0 rfl) ?_
  refine lv_iconst (v := nI 0) hX_ hB_ dX0_states_11 (by decide) ?_
  refine sd_putX E hW 1 (by decide) rfl rfl q28 dX0_states_12 (fun H locs hW => ?_)
  refine lv_aload_n hX_ hB_ dX0_states_15 rfl (lv_at hl 0 rfl) ?_
  refine sd_getX E hW 2 (v := .ref (h 1)) (by decide) rfl q29 dX0_states_16 ?_
  refine lv_iconst (v := nI 0) hX_ hB_ dX0_states_19 (by decide) ?_
  refine sd_callSv (y := yJ0_fill) (by_ := cJ0_fill) E hW hA [.ref (h 1), .int (nI 0)] (m_J0_fill l D d (ws := sd_wX h d ((sd_up (sd_up S 0 0 (1 + (v % 16))) 0 1 0))) 1 (a := h 1) (N := 32) (f := S 1) (v := 0) rfl (by decide) _) (va_cwS 2 hts (lw_S q86 q87 q16 q88) rfl rfl rfl (by decide +kernel) ⟨Nat.le_of_ble_eq_true rfl, Nat.le_of_ble_eq_true rfl⟩) rfl (fun _ => rfl) hl.1 rfl (Nat.le_of_ble_eq_true rfl) dX0_states_20 ⟨Nat.zero_le _, Nat.zero_le _⟩ (fun _ H locs hw hW => ?_)
  have hW : sd_W D A s.heap (sd_wX h d (sd_fill (sd_up (sd_up S 0 0 (1 + (v % 16))) 0 1 0) 1 32 0)) H locs := hW
  refine lv_aload_n hX_ hB_ dX0_states_23 rfl (lv_at hl 0 rfl) ?_
  refine lv_iconst (v := nI 0) hX_ hB_ dX0_states_24 (by decide) ?_
  refine sd_putX E hW 3 (by decide) rfl rfl q30 dX0_states_25 (fun H locs hW => ?_)
  refine sd_vret E hr hlk (sd_up (sd_fill (sd_up (sd_up S 0 0 (1 + (v % 16))) 0 1 0) 1 32 0) 0 3 0) hW ⟨⟨⟨by omega, by omega, fun j _ => by show 0 < _; omega⟩, rfl, fun j hj => ?_, Nat.two_pow_pos _, fun p _ => Nat.zero_testBit p⟩, by show 0 < 2; decide, fun z => by cases z⟩ dX0_states_28
  show (if j < 32 then 0 else S 1 j) = 0
  rw [if_pos hj]

set_option maxHeartbeats 4000000 in
set_option maxRecDepth 100000 in
/-- set -/
theorem m_Xset (l : Launch) (D : va_G) (d : Nat → ClassId) (h : Nat → Nat) (S : Nat → Nat → Nat) {n : Nat} {g : Nat → Nat} {F : Nat → Bool} (hB : sd_XB n g F S) {v a b f : Nat} (sz : Nat) : Met l yX0_set (ws_ yX0_set cX0_set 6 none) (sd_rm 1) (va_Pc [.ref (h 0), .int (nI v), .int (nI a), .int (nI b), .int (nI f)] (sd_P D d (sd_wX h d S) sz)) (sd_Qv D (fun u : Nat → Nat → Nat => sd_XI n (sd_ge g (v % 2147483648 % n) (a % 2147483648 % n) (b % 2147483648 % n)) (sd_Fe F (v % 2147483648 % n) f) u) (fun u => sd_wX h d u) (va_A (sd_wX h d S) sz)) 0 0 (va_A (sd_wX h d S) sz) := by
  refine sd_ofW (Qc := sd_Qv D (fun u : Nat → Nat → Nat => sd_XI n (sd_ge g (v % 2147483648 % n) (a % 2147483648 % n) (b % 2147483648 % n)) (sd_Fe F (v % 2147483648 % n) f) u) (fun u => sd_wX h d u)) (own := RX0) (by decide) rfl (Nat.le_of_ble_eq_true rfl) ?_
  intro p e s m below meth c ls A E hr hlk hnm hA hW hl
  have hX_ := E.1.1
  have hB_ := E.1.2.1
  have hown := E.1.2.2.2.1
  have hts := E.1.2.2.2.2
  have hl : lv_has ls 6 [(0, .ref (h 0)), (1, .int (nI v)), (2, .int (nI a)), (3, .int (nI b)), (4, .int (nI f))] := hl
  obtain ⟨⟨hn1, hn2, hg⟩, e0, e1, e2, e3⟩ := id hB
  subst e0
  have hv1 : v % 2147483648 % S 0 0 < S 0 0 := Nat.mod_lt _ (by omega)
  have hv2 : a % 2147483648 % S 0 0 < S 0 0 := Nat.mod_lt _ (by omega)
  have hv3 : b % 2147483648 % S 0 0 < S 0 0 := Nat.mod_lt _ (by omega)
  refine lv_aload_n hX_ hB_ dX0_set_0 rfl (lv_at hl 0 rfl) ?_
  refine lv_iload_n hX_ hB_ dX0_set_1 rfl (lv_at hl 1 rfl) ?_
  refine sd_callVi (y := yX0_state) (by_ := cX0_state) E hW hA [.int (nI v)] rfl rfl (m_state l D d h S (v := v) hn1 hn2 _) (cwV 1 hts (lw_V q93 q95 qs0 q14 q96) rfl rfl rfl (by decide +kernel) ⟨Nat.le_of_ble_eq_true rfl, Nat.le_of_ble_eq_true rfl⟩) rfl (fun _ => rfl) hl.1 rfl (Nat.le_of_ble_eq_true rfl) dX0_set_2 ⟨Nat.zero_le _, Nat.zero_le _⟩ (fun r x_ H locs hw hW => ?_)
  subst hw
  obtain ⟨x, ex⟩ : ∃ x, x = v % 2147483648 % S 0 0 := ⟨_, rfl⟩
  rw [← ex] at hv1 ⊢
  refine lv_istore (lv' := [(5, .int (nI x)), (0, .ref (h 0)), (1, .int (nI v)), (2, .int (nI a)), (3, .int (nI b)), (4, .int (nI f))]) hX_ hB_ dX0_set_5 hl (by decide) rfl (fun ls hl => ?_)
  refine lv_aload_n hX_ hB_ dX0_set_7 rfl (lv_at hl 1 rfl) ?_
  refine sd_getX E hW 2 (v := .ref (h 1)) (by decide) rfl q29 dX0_set_8 ?_
  refine lv_iconst (v := nI 2) hX_ hB_ dX0_set_11 (by decide) ?_
  refine lv_iload hX_ hB_ dX0_set_12 (lv_at hl 0 rfl) ?_
  refine sd_imul hX_ hB_ dX0_set_14 ?_
  refine lv_aload_n hX_ hB_ dX0_set_15 rfl (lv_at hl 1 rfl) ?_
  refine lv_iload_n hX_ hB_ dX0_set_16 rfl (lv_at hl 3 rfl) ?_
  refine sd_callVi (y := yX0_state) (by_ := cX0_state) E hW hA [.int (nI a)] rfl rfl (m_state l D d h S (v := a) hn1 hn2 _) (cwV 1 hts (lw_V q93 q95 qs0 q14 q96) rfl rfl rfl (by decide +kernel) ⟨Nat.le_of_ble_eq_true rfl, Nat.le_of_ble_eq_true rfl⟩) rfl (fun _ => rfl) hl.1 rfl (Nat.le_of_ble_eq_true rfl) dX0_set_17 ⟨Nat.zero_le _, Nat.zero_le _⟩ (fun r x_ H locs hw hW => ?_)
  subst hw
  refine sd_astX E hW 1 (by decide) (show 2 * x < 32 by omega) dX0_set_20 (fun H locs hW => ?_)
  refine lv_aload_n hX_ hB_ dX0_set_21 rfl (lv_at hl 1 rfl) ?_
  refine sd_getX E hW 2 (v := .ref (h 1)) (by decide) rfl q29 dX0_set_22 ?_
  refine lv_iconst (v := nI 2) hX_ hB_ dX0_set_25 (by decide) ?_
  refine lv_iload hX_ hB_ dX0_set_26 (lv_at hl 0 rfl) ?_
  refine sd_imul hX_ hB_ dX0_set_28 ?_
  refine lv_iconst (v := nI 1) hX_ hB_ dX0_set_29 (by decide) ?_
  refine sd_iadd hX_ hB_ dX0_set_30 ?_
  refine lv_aload_n hX_ hB_ dX0_set_31 rfl (lv_at hl 1 rfl) ?_
  refine lv_iload_n hX_ hB_ dX0_set_32 rfl (lv_at hl 4 rfl) ?_
  refine sd_callVi (y := yX0_state) (by_ := cX0_state) E hW hA [.int (nI b)] rfl rfl (m_state l D d h (sd_up S 1 (2 * x) (a % 2147483648 % S 0 0)) (v := b) hn1 hn2 _) (cwV 1 hts (lw_V q93 q95 qs0 q14 q96) rfl rfl rfl (by decide +kernel) ⟨Nat.le_of_ble_eq_true rfl, Nat.le_of_ble_eq_true rfl⟩) rfl (fun _ => rfl) hl.1 rfl (Nat.le_of_ble_eq_true rfl) dX0_set_33 ⟨Nat.zero_le _, Nat.zero_le _⟩ (fun r x_ H locs hw hW => ?_)
  subst hw
  refine sd_astX E hW 1 (by decide) (show 2 * x + 1 < 32 by omega) dX0_set_36 (fun H locs hW => ?_)
  refine lv_aload_n hX_ hB_ dX0_set_37 rfl (lv_at hl 1 rfl) ?_
  refine lv_iload hX_ hB_ dX0_set_38 (lv_at hl 5 rfl) ?_
  refine lv_iconst (v := nI 1) hX_ hB_ dX0_set_40 (by decide) ?_
  refine sd_iandE (sd_and1 _) hX_ hB_ dX0_set_41 ?_
  refine lv_iconst (v := nI 1) hX_ hB_ dX0_set_42 (by decide) ?_
  refine sd_cut (fun z : Nat => z < 2 ^ S 0 0 ∧ ∀ p, p < 16 → z.testBit p = sd_Fe F x f p) (fun z => F0 m 69 ls [.int (nI z), .ref (h 0)]) (fun z hz => ?_) (fun J => ?_)
  · skip
    refine sd_putX E hW 1 (by decide) rfl rfl q28 dX0_set_69 (fun H locs hW => ?_)
    refine lv_aload_n hX_ hB_ dX0_set_72 rfl (lv_at hl 1 rfl) ?_
    refine lv_iconst (v := nI 0) hX_ hB_ dX0_set_73 (by decide) ?_
    refine sd_putX E hW 3 (by decide) rfl rfl q30 dX0_set_74 (fun H locs hW => ?_)
    refine sd_vret E hr hlk (sd_up (sd_up (sd_up (sd_up S 1 (2 * x) (a % 2147483648 % S 0 0)) 1 ((2 * x) + 1) (b % 2147483648 % S 0 0)) 0 1 z) 0 3 0) hW ⟨⟨⟨hn1, hn2, fun j hj => ?_⟩, rfl, fun j hj => ?_, hz.1, hz.2⟩, by show 0 < 2; decide, fun z => by cases z⟩ dX0_set_77
    · unfold sd_ge
      split
      · exact hv3
      · split
        · exact hv2
        · exact hg j hj
    · show (if j = 2 * x + 1 then _ else if j = 2 * x then _ else S 1 j) = sd_ge g x _ _ j
      rw [e1 j hj]; rfl
  · skip
    refine sd_icmp_ne (tgt := 58) hX_ hB_ dX0_set_43 (by decide) (by omega) (by omega) (fun c1 => ?_) (fun c1 => ?_)
    · skip
      refine lv_aload_n hX_ hB_ dX0_set_58 rfl (lv_at hl 1 rfl) ?_
      refine sd_getX E hW 1 (v := .int (nI (S 0 1))) (by decide) rfl q28 dX0_set_59 ?_
      refine lv_iconst (v := nI 1) hX_ hB_ dX0_set_62 (by decide) ?_
      refine lv_iload hX_ hB_ dX0_set_63 (lv_at hl 0 rfl) ?_
      refine sd_ishl1 hX_ hB_ dX0_set_65 (by omega) ?_
      refine lv_iconst (v := -1) hX_ hB_ dX0_set_66 (by decide) ?_
      refine lv_ixor hX_ hB_ dX0_set_67 ?_
      refine sd_iandE (sd_andn _ _) hX_ hB_ dX0_set_68 ?_
      refine J _ ⟨sd_no_lt e2, fun p hp => ?_⟩
      rw [sd_no_bit, Nat.testBit_two_pow, e3 p hp]
      unfold sd_Fe
      by_cases q : p = x
      · rw [if_pos q, q]; simp; omega
      · rw [if_neg q]; simp; exact fun _ z => q z.symm
    · skip
      refine lv_aload_n hX_ hB_ dX0_set_46 rfl (lv_at hl 1 rfl) ?_
      refine sd_getX E hW 1 (v := .int (nI (S 0 1))) (by decide) rfl q28 dX0_set_47 ?_
      refine lv_iconst (v := nI 1) hX_ hB_ dX0_set_50 (by decide) ?_
      refine lv_iload hX_ hB_ dX0_set_51 (lv_at hl 0 rfl) ?_
      refine sd_ishl1 hX_ hB_ dX0_set_53 (by omega) ?_
      refine sd_ior hX_ hB_ dX0_set_54 ?_
      refine lv_goto (tgt := 69) hX_ hB_ dX0_set_55 (by decide) ?_
      refine J _ ⟨Nat.or_lt_two_pow e2 (Nat.pow_lt_pow_right (by decide) hv1), fun p hp => ?_⟩
      rw [sd_or_bit, e3 p hp]
      unfold sd_Fe
      by_cases q : p = x
      · rw [if_pos q, q]; simp; omega
      · rw [if_neg q]; simp; exact fun z => absurd z.symm q

set_option maxHeartbeats 4000000 in
set_option maxRecDepth 100000 in
/-- the states from which a letter leads into a set -/
theorem m_behind (l : Launch) (D : va_G) (d : Nat → ClassId) (h : Nat → Nat) (S : Nat → Nat → Nat) {n : Nat} {g : Nat → Nat} {F : Nat → Bool} (hB : sd_XB n g F S) {o a : Nat} (ho : o < 2 ^ 16) (ha : a < 2) (sz : Nat) : Met l yX0_behind (ws_ yX0_behind cX0_behind 5 (some .int)) (sd_rm 0) (va_Pc [.ref (h 0), .int (nI o), .int (nI a)] (sd_P D d (sd_wX h d S) sz)) (sd_Qi D (fun (r : Int32) (_ : Unit) => ∃ f, r = nI f ∧ f < 2 ^ n ∧ ∀ p, p < n → f.testBit p = o.testBit (g (2 * p + a))) (fun _ => sd_wX h d S) (va_A (sd_wX h d S) sz)) 0 0 (va_A (sd_wX h d S) sz) := by
  refine sd_ofW (Qc := sd_Qi D (fun (r : Int32) (_ : Unit) => ∃ f, r = nI f ∧ f < 2 ^ n ∧ ∀ p, p < n → f.testBit p = o.testBit (g (2 * p + a))) (fun _ => sd_wX h d S)) (own := RX0) (by decide) rfl (Nat.le_of_ble_eq_true rfl) ?_
  intro p e s m below meth c ls A E hr hlk hnm hA hW hl
  have hX_ := E.1.1
  have hB_ := E.1.2.1
  have hown := E.1.2.2.2.1
  have hts := E.1.2.2.2.2
  have hl : lv_has ls 5 [(0, .ref (h 0)), (1, .int (nI o)), (2, .int (nI a))] := hl
  obtain ⟨⟨hn1, hn2, hg⟩, e0, e1, e2, e3⟩ := id hB
  refine lv_iconst (v := nI 0) hX_ hB_ dX0_behind_0 (by decide) ?_
  refine lv_istore_n (lv' := [(3, .int (nI 0)), (0, .ref (h 0)), (1, .int (nI o)), (2, .int (nI a))]) hX_ hB_ dX0_behind_1 rfl hl (by decide) rfl (fun ls hl => ?_)
  refine lv_iconst (v := nI 0) hX_ hB_ dX0_behind_2 (by decide) ?_
  refine lv_istore (lv' := [(4, .int (nI 0)), (3, .int (nI 0)), (0, .ref (h 0)), (1, .int (nI o)), (2, .int (nI a))]) hX_ hB_ dX0_behind_3 hl (by decide) rfl (fun ls hl => ?_)
  refine sd_loop2 (fun nn (i : Nat) (f : Nat) H locs ls => nn = 16 - i ∧ (i ≤ n) ∧ (f < 2 ^ i) ∧ (∀ p, p < i → f.testBit p = o.testBit (g (2 * p + a))) ∧ sd_W D A s.heap (sd_wX h d S) H locs ∧ lv_has ls 5 [(0, .ref (h 0)), (1, .int (nI o)), (2, .int (nI a)), (3, .int (nI f)), (4, .int (nI i))]) (fun nn i f H locs ls hI ih => ?_) _ 0 0 _ _ _ ⟨rfl, Nat.zero_le _, by decide, (fun p hp => absurd hp (Nat.not_lt_zero p)), hW, lv_sub hl [2, 3, 4, 1, 0] rfl⟩
  · skip
    obtain ⟨rfl, hi, hf, hb, hW, hl⟩ := hI
    refine lv_iload hX_ hB_ dX0_behind_5 (lv_at hl 4 rfl) ?_
    refine lv_aload_n hX_ hB_ dX0_behind_7 rfl (lv_at hl 0 rfl) ?_
    refine sd_getX E hW 0 (v := .int (nI (S 0 0))) (by decide) rfl q27 dX0_behind_8 ?_
    refine sd_icmp_ge (tgt := 46) hX_ hB_ dX0_behind_11 (by decide) (by omega) (by omega) (fun c1 => ?_) (fun c1 => ?_)
    · skip
      refine lv_iload_n hX_ hB_ dX0_behind_46 rfl (lv_at hl 3 rfl) ?_
      have e : i = n := by omega
      subst e
      exact sd_iret E hr hlk () hW ⟨f, rfl, hf, hb⟩ dX0_behind_47
    · skip
      have g1 := hg (2 * i + a) (by omega)
      have hfi : f.testBit i = false := Nat.testBit_lt_two_pow hf
      have hp1 : 2 ^ (i + 1) = 2 ^ i + 2 ^ i := by rw [Nat.pow_succ]; omega
      refine lv_iload_n hX_ hB_ dX0_behind_14 rfl (lv_at hl 1 rfl) ?_
      refine lv_aload_n hX_ hB_ dX0_behind_15 rfl (lv_at hl 0 rfl) ?_
      refine sd_getX E hW 2 (v := .ref (h 1)) (by decide) rfl q29 dX0_behind_16 ?_
      refine lv_iconst (v := nI 2) hX_ hB_ dX0_behind_19 (by decide) ?_
      refine lv_iload hX_ hB_ dX0_behind_20 (lv_at hl 4 rfl) ?_
      refine sd_imul hX_ hB_ dX0_behind_22 ?_
      refine lv_iload_n hX_ hB_ dX0_behind_23 rfl (lv_at hl 2 rfl) ?_
      refine sd_iadd hX_ hB_ dX0_behind_24 ?_
      refine sd_ald (f := S 1) E hW 1 rfl (by omega) (by decide) dX0_behind_25 ?_
      rw [e1 _ (by omega)]
      refine sd_ishr hX_ hB_ dX0_behind_26 (by omega) (by omega) ?_
      refine lv_iconst (v := nI 1) hX_ hB_ dX0_behind_27 (by decide) ?_
      refine sd_iandE (sd_and1 _) hX_ hB_ dX0_behind_28 ?_
      refine lv_iconst (v := nI 1) hX_ hB_ dX0_behind_29 (by decide) ?_
      refine sd_icmp_ne (tgt := 40) hX_ hB_ dX0_behind_30 (by decide) (by omega) (by omega) (fun c2 => ?_) (fun c2 => ?_)
      · skip
        refine sd_iinc (lv' := [(4, .int (nI (i + 1))), (0, .ref (h 0)), (1, .int (nI o)), (2, .int (nI a)), (3, .int (nI f))]) hX_ hB_ dX0_behind_40 hl (k := 4) rfl (by decide) rfl (fun ls hl => ?_)
        refine lv_goto (tgt := 5) hX_ hB_ dX0_behind_43 (by decide) ?_
        exact ih _ (i + 1) f H locs ls (by omega) ⟨rfl, by omega, by omega, (fun p hp => by rcases (show p < i ∨ p = i by omega) with q | q; exact hb p q; (subst q; rw [hfi]; exact (sd_tb0.mp (by omega)).symm)), hW, lv_sub hl [1, 2, 3, 4, 0] rfl⟩
      · skip
        refine lv_iload_n hX_ hB_ dX0_behind_33 rfl (lv_at hl 3 rfl) ?_
        refine lv_iconst (v := nI 1) hX_ hB_ dX0_behind_34 (by decide) ?_
        refine lv_iload hX_ hB_ dX0_behind_35 (lv_at hl 4 rfl) ?_
        refine sd_ishl1 hX_ hB_ dX0_behind_37 (by omega) ?_
        refine sd_ior hX_ hB_ dX0_behind_38 ?_
        refine lv_istore_n (lv' := [(3, .int (nI (f ||| (2 ^ i)))), (0, .ref (h 0)), (1, .int (nI o)), (2, .int (nI a)), (4, .int (nI i))]) hX_ hB_ dX0_behind_39 rfl hl (by decide) rfl (fun ls hl => ?_)
        refine sd_iinc (lv' := [(4, .int (nI (i + 1))), (3, .int (nI (f ||| (2 ^ i)))), (0, .ref (h 0)), (1, .int (nI o)), (2, .int (nI a))]) hX_ hB_ dX0_behind_40 hl (k := 4) rfl (by decide) rfl (fun ls hl => ?_)
        refine lv_goto (tgt := 5) hX_ hB_ dX0_behind_43 (by decide) ?_
        exact ih _ (i + 1) (f ||| 2 ^ i) H locs ls (by omega) ⟨rfl, by omega, Nat.or_lt_two_pow (by omega) (by omega), (fun p hp => by rw [sd_or_bit]; rcases (show p < i ∨ p = i by omega) with q | q; (rw [hb p q]; simp; omega); (subst q; rw [sd_tb1.mp c2]; simp)), hW, lv_sub hl [2, 3, 4, 1, 0] rfl⟩

set_option maxHeartbeats 4000000 in
set_option maxRecDepth 100000 in
/-- both letters wait -/
theorem m_wait (l : Launch) (D : va_G) (d : Nat → ClassId) (h : Nat → Nat) (S : Nat → Nat → Nat) {o : Nat} (h0 : S 0 11 = 0) (sz : Nat) : Met l yX0_wait (ws_ yX0_wait cX0_wait 3 none) (sd_rm 0) (va_Pc [.ref (h 0), .int (nI o)] (sd_P D d (sd_wX h d S) sz)) (sd_Qv D (fun u : Nat → Nat → Nat => u = sd_up (sd_up (sd_up (sd_up S 5 0 (2 * o)) 0 11 1) 5 1 (2 * o + 1)) 0 11 2) (fun u => sd_wX h d u) (va_A (sd_wX h d S) sz)) 0 0 (va_A (sd_wX h d S) sz) := by
  refine sd_ofW (Qc := sd_Qv D (fun u : Nat → Nat → Nat => u = sd_up (sd_up (sd_up (sd_up S 5 0 (2 * o)) 0 11 1) 5 1 (2 * o + 1)) 0 11 2) (fun u => sd_wX h d u)) (own := RX0) (by decide) rfl (Nat.le_of_ble_eq_true rfl) ?_
  intro p e s m below meth c ls A E hr hlk hnm hA hW hl
  have hX_ := E.1.1
  have hB_ := E.1.2.1
  have hown := E.1.2.2.2.1
  have hts := E.1.2.2.2.2
  have hl : lv_has ls 3 [(0, .ref (h 0)), (1, .int (nI o))] := hl
  refine lv_iconst (v := nI 0) hX_ hB_ dX0_wait_0 (by decide) ?_
  refine lv_istore_n (lv' := [(2, .int (nI 0)), (0, .ref (h 0)), (1, .int (nI o))]) hX_ hB_ dX0_wait_1 rfl hl (by decide) rfl (fun ls hl => ?_)
  refine lv_iload_n hX_ hB_ dX0_wait_2 rfl (lv_at hl 0 rfl) ?_
  refine lv_iconst (v := nI 2) hX_ hB_ dX0_wait_3 (by decide) ?_
  refine sd_icmp_ge (tgt := 37) hX_ hB_ dX0_wait_4 (by decide) (by omega) (by omega) (fun c0 => ?_) (fun c0 => ?_)
  · skip
    omega
  · skip
    refine lv_aload_n hX_ hB_ dX0_wait_7 rfl (lv_at hl 1 rfl) ?_
    refine sd_getX E hW 9 (v := .ref (h 5)) (by decide) rfl q36 dX0_wait_8 ?_
    refine lv_aload_n hX_ hB_ dX0_wait_11 rfl (lv_at hl 1 rfl) ?_
    refine sd_getX E hW 11 (v := .int (nI (S 0 11))) (by decide) rfl q38 dX0_wait_12 ?_
    rw [h0]
    refine lv_iload_n hX_ hB_ dX0_wait_15 rfl (lv_at hl 2 rfl) ?_
    refine lv_iconst (v := nI 1) hX_ hB_ dX0_wait_16 (by decide) ?_
    refine sd_ishl2 hX_ hB_ dX0_wait_17 ?_
    refine lv_iload_n hX_ hB_ dX0_wait_18 rfl (lv_at hl 0 rfl) ?_
    refine sd_ior hX_ hB_ dX0_wait_19 ?_
    rw [sd_orx o (by decide : 0 < 2), Nat.add_zero]
    refine sd_astX E hW 5 (by decide) (show 0 < 512 by omega) dX0_wait_20 (fun H locs hW => ?_)
    refine lv_aload_n hX_ hB_ dX0_wait_21 rfl (lv_at hl 1 rfl) ?_
    refine lv_dup hX_ hB_ dX0_wait_22 rfl ?_
    refine sd_getX E hW 11 (v := .int (nI (S 0 11))) (by decide) rfl q38 dX0_wait_23 ?_
    rw [h0]
    refine lv_iconst (v := nI 1) hX_ hB_ dX0_wait_26 (by decide) ?_
    refine sd_iadd hX_ hB_ dX0_wait_27 ?_
    refine sd_eqn (b := 1) rfl ?_
    refine sd_putX E hW 11 (by decide) rfl rfl q38 dX0_wait_28 (fun H locs hW => ?_)
    refine sd_iinc (lv' := [(2, .int (nI (0 + 1))), (0, .ref (h 0)), (1, .int (nI o))]) hX_ hB_ dX0_wait_31 hl (k := 0) rfl (by decide) rfl (fun ls hl => ?_)
    refine lv_goto (tgt := 2) hX_ hB_ dX0_wait_34 (by decide) ?_
    refine lv_iload_n hX_ hB_ dX0_wait_2 rfl (lv_at hl 0 rfl) ?_
    refine lv_iconst (v := nI 2) hX_ hB_ dX0_wait_3 (by decide) ?_
    refine sd_icmp_ge (tgt := 37) hX_ hB_ dX0_wait_4 (by decide) (by omega) (by omega) (fun c1 => ?_) (fun c1 => ?_)
    · skip
      omega
    · skip
      refine lv_aload_n hX_ hB_ dX0_wait_7 rfl (lv_at hl 1 rfl) ?_
      refine sd_getX E hW 9 (v := .ref (h 5)) (by decide) rfl q36 dX0_wait_8 ?_
      refine lv_aload_n hX_ hB_ dX0_wait_11 rfl (lv_at hl 1 rfl) ?_
      refine sd_getX E hW 11 (v := .int (nI 1)) (by decide) rfl q38 dX0_wait_12 ?_
      refine lv_iload_n hX_ hB_ dX0_wait_15 rfl (lv_at hl 2 rfl) ?_
      refine lv_iconst (v := nI 1) hX_ hB_ dX0_wait_16 (by decide) ?_
      refine sd_ishl2 hX_ hB_ dX0_wait_17 ?_
      refine lv_iload_n hX_ hB_ dX0_wait_18 rfl (lv_at hl 0 rfl) ?_
      refine sd_ior hX_ hB_ dX0_wait_19 ?_
      rw [sd_orx o (by decide : 1 < 2)]
      refine sd_astX E hW 5 (by decide) (show 1 < 512 by decide) dX0_wait_20 (fun H locs hW => ?_)
      refine lv_aload_n hX_ hB_ dX0_wait_21 rfl (lv_at hl 1 rfl) ?_
      refine lv_dup hX_ hB_ dX0_wait_22 rfl ?_
      refine sd_getX E hW 11 (v := .int (nI 1)) (by decide) rfl q38 dX0_wait_23 ?_
      refine lv_iconst (v := nI 1) hX_ hB_ dX0_wait_26 (by decide) ?_
      refine sd_iadd hX_ hB_ dX0_wait_27 ?_
      refine sd_eqn (b := 2) rfl ?_
      refine sd_putX E hW 11 (by decide) rfl rfl q38 dX0_wait_28 (fun H locs hW => ?_)
      refine sd_iinc (lv' := [(2, .int (nI (1 + 1))), (0, .ref (h 0)), (1, .int (nI o))]) hX_ hB_ dX0_wait_31 hl (k := 0) rfl (by decide) rfl (fun ls hl => ?_)
      refine lv_goto (tgt := 2) hX_ hB_ dX0_wait_34 (by decide) ?_
      refine lv_iload_n hX_ hB_ dX0_wait_2 rfl (lv_at hl 0 rfl) ?_
      refine lv_iconst (v := nI 2) hX_ hB_ dX0_wait_3 (by decide) ?_
      refine sd_icmp_ge (tgt := 37) hX_ hB_ dX0_wait_4 (by decide) (by omega) (by omega) (fun c2 => ?_) (fun c2 => ?_)
      · skip
        exact sd_vret E hr hlk _ hW rfl dX0_wait_37
      · skip
        omega

set_option maxHeartbeats 4000000 in
set_option maxRecDepth 100000 in
/-- does it wait -/
theorem m_isWaiting (l : Launch) (D : va_G) (d : Nat → ClassId) (h : Nat → Nat) (S : Nat → Nat → Nat) {o a : Nat} (ho : o < 2 ^ 16) (ha : a < 2) (hq : S 0 11 ≤ 512) (hv : ∀ i, i < S 0 11 → S 5 i < 2 ^ 17) (sz : Nat) : Met l yX0_isWaiting (ws_ yX0_isWaiting cX0_isWaiting 4 (some .boolean)) (sd_rm 0) (va_Pc [.ref (h 0), .int (nI o), .int (nI a)] (sd_P D d (sd_wX h d S) sz)) (sd_Qi D (fun (r : Int32) (_ : Unit) => (r = nI 1 ∧ sd_in S (2 * o + a)) ∨ (r = nI 0 ∧ ¬ sd_in S (2 * o + a))) (fun _ => sd_wX h d S) (va_A (sd_wX h d S) sz)) 0 0 (va_A (sd_wX h d S) sz) := by
  refine sd_ofW (Qc := sd_Qi D (fun (r : Int32) (_ : Unit) => (r = nI 1 ∧ sd_in S (2 * o + a)) ∨ (r = nI 0 ∧ ¬ sd_in S (2 * o + a))) (fun _ => sd_wX h d S)) (own := RX0) (by decide) rfl (Nat.le_of_ble_eq_true rfl) ?_
  intro p e s m below meth c ls A E hr hlk hnm hA hW hl
  have hX_ := E.1.1
  have hB_ := E.1.2.1
  have hown := E.1.2.2.2.1
  have hts := E.1.2.2.2.2
  have hl : lv_has ls 4 [(0, .ref (h 0)), (1, .int (nI o)), (2, .int (nI a))] := hl
  refine lv_iconst (v := nI 0) hX_ hB_ dX0_isWaiting_0 (by decide) ?_
  refine lv_istore_n (lv' := [(3, .int (nI 0)), (0, .ref (h 0)), (1, .int (nI o)), (2, .int (nI a))]) hX_ hB_ dX0_isWaiting_1 rfl hl (by decide) rfl (fun ls hl => ?_)
  refine sd_loop1 (fun nn (i : Nat) H locs ls => nn = 512 - i ∧ (i ≤ S 0 11) ∧ (∀ j, j < i → S 5 j ≠ 2 * o + a) ∧ sd_W D A s.heap (sd_wX h d S) H locs ∧ lv_has ls 4 [(0, .ref (h 0)), (1, .int (nI o)), (2, .int (nI a)), (3, .int (nI i))]) (fun nn i H locs ls hI ih => ?_) _ 0 _ _ _ ⟨rfl, Nat.zero_le _, (fun j hj => absurd hj (Nat.not_lt_zero j)), hW, lv_sub hl [1, 2, 3, 0] rfl⟩
  · skip
    obtain ⟨rfl, hi, hn, hW, hl⟩ := hI
    refine lv_iload_n hX_ hB_ dX0_isWaiting_2 rfl (lv_at hl 3 rfl) ?_
    refine lv_aload_n hX_ hB_ dX0_isWaiting_3 rfl (lv_at hl 0 rfl) ?_
    refine sd_getX E hW 11 (v := .int (nI (S 0 11))) (by decide) rfl q38 dX0_isWaiting_4 ?_
    refine sd_icmp_ge (tgt := 32) hX_ hB_ dX0_isWaiting_7 (by decide) (by omega) (by omega) (fun c1 => ?_) (fun c1 => ?_)
    · skip
      refine lv_iconst (v := nI 0) hX_ hB_ dX0_isWaiting_32 (by decide) ?_
      refine sd_zret (by decide) E hr hlk () hW (Or.inr ⟨rfl, ?_⟩) dX0_isWaiting_33
      rintro ⟨i2, h1, h2⟩
      exact hn i2 (by omega) h2
    · skip
      have hvi := hv i (by omega)
      refine lv_aload_n hX_ hB_ dX0_isWaiting_10 rfl (lv_at hl 0 rfl) ?_
      refine sd_getX E hW 9 (v := .ref (h 5)) (by decide) rfl q36 dX0_isWaiting_11 ?_
      refine lv_iload_n hX_ hB_ dX0_isWaiting_14 rfl (lv_at hl 3 rfl) ?_
      refine sd_ald (f := S 5) E hW 5 rfl (by omega) (by decide) dX0_isWaiting_15 ?_
      refine lv_iload_n hX_ hB_ dX0_isWaiting_16 rfl (lv_at hl 1 rfl) ?_
      refine lv_iconst (v := nI 1) hX_ hB_ dX0_isWaiting_17 (by decide) ?_
      refine sd_ishl2 hX_ hB_ dX0_isWaiting_18 ?_
      refine lv_iload_n hX_ hB_ dX0_isWaiting_19 rfl (lv_at hl 2 rfl) ?_
      refine sd_ior hX_ hB_ dX0_isWaiting_20 ?_
      rw [sd_orx o ha]
      refine sd_icmp_ne (tgt := 26) hX_ hB_ dX0_isWaiting_21 (by decide) (by omega) (by omega) (fun c2 => ?_) (fun c2 => ?_)
      · skip
        refine sd_iinc (lv' := [(3, .int (nI (i + 1))), (0, .ref (h 0)), (1, .int (nI o)), (2, .int (nI a))]) hX_ hB_ dX0_isWaiting_26 hl (k := 3) rfl (by decide) rfl (fun ls hl => ?_)
        refine lv_goto (tgt := 2) hX_ hB_ dX0_isWaiting_29 (by decide) ?_
        exact ih _ (i + 1) H locs ls (by omega) ⟨rfl, by omega, (fun j hj => by rcases (show j < i ∨ j = i by omega) with q | q; exact hn j q; (subst q; exact c2)), hW, lv_sub hl [1, 2, 3, 0] rfl⟩
      · skip
        refine lv_iconst (v := nI 1) hX_ hB_ dX0_isWaiting_24 (by decide) ?_
        exact sd_zret (by decide) E hr hlk () hW (Or.inl ⟨rfl, i, by omega, c2⟩) dX0_isWaiting_25
end
section
/-- the waiting list behind splitWaiting -/
theorem sd_sw {S T : Nat → Nat → Nat} {q0 q old i o : Nat} {src : Nat → Nat} (h11 : S 0 11 = q0) (tq : T 0 11 = q) (hq : q0 ≤ q)
    (hA : ∀ j, j < q0 → T 5 j = if S 5 j / 2 = old then 2 * i + S 5 j % 2 else S 5 j) (hC : ∀ j, q0 ≤ j → j < q → src j < q0 ∧ S 5 (src j) / 2 = old ∧ T 5 j = 2 * o + S 5 (src j) % 2) (hC2 : ∀ j k, q0 ≤ j → j < q → q0 ≤ k → k < q → src j = src k → j = k) (hD : ∀ j, j < q0 → S 5 j / 2 = old → ∃ k, q0 ≤ k ∧ k < q ∧ src k = j)
    (nd : sd_nd S) (n3 : i ≠ o) (hx : ∀ x, x < 2 → sd_in S (2 * old + x) → ¬ sd_in S (2 * i + x) ∧ ¬ sd_in S (2 * o + x)) :
    sd_nd T ∧ ∀ v, sd_in T v ↔ (sd_in S v ∧ v / 2 ≠ old) ∨ ∃ x, x < 2 ∧ sd_in S (2 * old + x) ∧ (v = 2 * i + x ∨ v = 2 * o + x) := by
  subst h11
  have din : ∀ j, j < S 0 11 → S 5 j / 2 = old → sd_in S (2 * old + S 5 j % 2) := fun j hj e => ⟨j, hj, by omega⟩
  have lo : ∀ j k, j < S 0 11 → k < S 0 11 → T 5 j = T 5 k → j = k := by
    intro j k hj hk e
    rw [hA j hj, hA k hk] at e
    by_cases a : S 5 j / 2 = old
    · rw [if_pos a] at e
      by_cases b : S 5 k / 2 = old
      · rw [if_pos b] at e
        exact nd j k hj hk (by omega)
      · rw [if_neg b] at e
        exact absurd ⟨k, hk, e.symm⟩ (hx _ (by omega) (din j hj a)).1
    · rw [if_neg a] at e
      by_cases b : S 5 k / 2 = old
      · rw [if_pos b] at e
        exact absurd ⟨j, hj, e⟩ (hx _ (by omega) (din k hk b)).1
      · rw [if_neg b] at e
        exact nd j k hj hk e
  have mid : ∀ j k, j < S 0 11 → S 0 11 ≤ k → k < q → T 5 j ≠ T 5 k := by
    intro j k hj hk hk2 e
    obtain ⟨c1, c2, c3⟩ := hC k hk hk2
    rw [hA j hj, c3] at e
    by_cases a : S 5 j / 2 = old
    · rw [if_pos a] at e
      exact n3 (by omega)
    · rw [if_neg a] at e
      exact absurd ⟨j, hj, e⟩ (hx _ (by omega) (din _ c1 c2)).2
  constructor
  · intro j k hj hk e
    rw [tq] at hj hk
    rcases Nat.lt_or_ge j (S 0 11) with a | a
    · rcases Nat.lt_or_ge k (S 0 11) with b | b
      · exact lo j k a b e
      · exact absurd e (mid j k a b hk)
    · rcases Nat.lt_or_ge k (S 0 11) with b | b
      · exact absurd e.symm (mid k j b a hj)
      · obtain ⟨c1, c2, c3⟩ := hC j a hj
        obtain ⟨d1, d2, d3⟩ := hC k b hk
        exact hC2 j k a hj b hk (nd _ _ c1 d1 (by omega))
  · intro v
    constructor
    · rintro ⟨j, hj, e⟩
      rw [tq] at hj
      rcases Nat.lt_or_ge j (S 0 11) with a | a
      · rw [hA j a] at e
        by_cases b : S 5 j / 2 = old
        · rw [if_pos b] at e
          exact Or.inr ⟨S 5 j % 2, by omega, din j a b, Or.inl e.symm⟩
        · rw [if_neg b] at e
          exact Or.inl ⟨⟨j, a, e⟩, by rw [← e]; exact b⟩
      · obtain ⟨c1, c2, c3⟩ := hC j a hj
        exact Or.inr ⟨S 5 (src j) % 2, by omega, din _ c1 c2, Or.inr (by omega)⟩
    · rintro (⟨⟨j, hj, e⟩, hne⟩ | ⟨x, hx2, ⟨j, hj, e⟩, hv⟩)
      · exact ⟨j, by omega, by rw [hA j hj, if_neg (by rw [e]; exact hne)]; exact e⟩
      · rcases hv with hv | hv
        · exact ⟨j, by omega, by rw [hA j hj, if_pos (by omega)]; omega⟩
        · obtain ⟨k, k1, k2, k3⟩ := hD j hj (by omega)
          obtain ⟨c1, c2, c3⟩ := hC k k1 k2
          exact ⟨k, by omega, by rw [c3, k3]; omega⟩

set_option maxHeartbeats 4000000 in
set_option maxRecDepth 100000 in
/-- a set that waits was split -/
theorem m_splitWaiting (l : Launch) (D : va_G) (d : Nat → ClassId) (h : Nat → Nat) (S : Nat → Nat → Nat) {o1 o2 o3 : Nat} (h1 : o1 < 2 ^ 16) (h2 : o2 < 2 ^ 16) (h3 : o3 < 2 ^ 16) (hq : S 0 11 ≤ 200) (hv : ∀ i, i < S 0 11 → S 5 i < 2 ^ 17) (nd : sd_nd S) (n3 : o2 ≠ o3) (hx : ∀ x, x < 2 → sd_in S (2 * o1 + x) → ¬ sd_in S (2 * o2 + x) ∧ ¬ sd_in S (2 * o3 + x)) (sz : Nat) : Met l yX0_splitWaiting (ws_ yX0_splitWaiting cX0_splitWaiting 6 none) (sd_rm 0) (va_Pc [.ref (h 0), .int (nI o1), .int (nI o2), .int (nI o3)] (sd_P D d (sd_wX h d S) sz)) (sd_Qv D (fun u : Nat → Nat → Nat => (∀ c, c ≠ 0 → c ≠ 5 → u c = S c) ∧ (∀ j, j ≠ 11 → u 0 j = S 0 j) ∧ sd_nd u ∧ ∀ v, sd_in u v ↔ (sd_in S v ∧ v / 2 ≠ o1) ∨ ∃ x, x < 2 ∧ sd_in S (2 * o1 + x) ∧ (v = 2 * o2 + x ∨ v = 2 * o3 + x)) (fun u => sd_wX h d u) (va_A (sd_wX h d S) sz)) 0 0 (va_A (sd_wX h d S) sz) := by
  refine sd_ofW (Qc := sd_Qv D (fun u : Nat → Nat → Nat => (∀ c, c ≠ 0 → c ≠ 5 → u c = S c) ∧ (∀ j, j ≠ 11 → u 0 j = S 0 j) ∧ sd_nd u ∧ ∀ v, sd_in u v ↔ (sd_in S v ∧ v / 2 ≠ o1) ∨ ∃ x, x < 2 ∧ sd_in S (2 * o1 + x) ∧ (v = 2 * o2 + x ∨ v = 2 * o3 + x)) (fun u => sd_wX h d u)) (own := RX0) (by decide) rfl (Nat.le_of_ble_eq_true rfl) ?_
  intro p e s m below meth c ls A E hr hlk hnm hA hW hl
  have hX_ := E.1.1
  have hB_ := E.1.2.1
  have hown := E.1.2.2.2.1
  have hts := E.1.2.2.2.2
  have hl : lv_has ls 6 [(0, .ref (h 0)), (1, .int (nI o1)), (2, .int (nI o2)), (3, .int (nI o3))] := hl
  refine lv_aload_n hX_ hB_ dX0_splitWaiting_0 rfl (lv_at hl 0 rfl) ?_
  refine sd_getX E hW 11 (v := .int (nI (S 0 11))) (by decide) rfl q38 dX0_splitWaiting_1 ?_
  refine lv_istore (lv' := [(4, .int (nI (S 0 11))), (0, .ref (h 0)), (1, .int (nI o1)), (2, .int (nI o2)), (3, .int (nI o3))]) hX_ hB_ dX0_splitWaiting_4 hl (by decide) rfl (fun ls hl => ?_)
  refine lv_iconst (v := nI 0) hX_ hB_ dX0_splitWaiting_6 (by decide) ?_
  refine lv_istore (lv' := [(5, .int (nI 0)), (4, .int (nI (S 0 11))), (0, .ref (h 0)), (1, .int (nI o1)), (2, .int (nI o2)), (3, .int (nI o3))]) hX_ hB_ dX0_splitWaiting_7 hl (by decide) rfl (fun ls hl => ?_)
  refine sd_loop4 (fun nn (k : Nat) (q : Nat) (T : Nat → Nat → Nat) (src : Nat → Nat) H locs ls => nn = S 0 11 - k ∧ (k ≤ S 0 11) ∧ (T 0 11 = q) ∧ (S 0 11 ≤ q) ∧ (q ≤ S 0 11 + k) ∧ (∀ c, c ≠ 0 → c ≠ 5 → T c = S c) ∧ (∀ j, j ≠ 11 → T 0 j = S 0 j) ∧ (∀ i, i < k → T 5 i = if S 5 i / 2 = o1 then 2 * o2 + S 5 i % 2 else S 5 i) ∧ (∀ i, k ≤ i → i < S 0 11 → T 5 i = S 5 i) ∧ (∀ i, S 0 11 ≤ i → i < q → src i < k ∧ S 5 (src i) / 2 = o1 ∧ T 5 i = 2 * o3 + S 5 (src i) % 2) ∧ (∀ i j, S 0 11 ≤ i → i < q → S 0 11 ≤ j → j < q → src i = src j → i = j) ∧ (∀ i, i < k → S 5 i / 2 = o1 → ∃ j, S 0 11 ≤ j ∧ j < q ∧ src j = i) ∧ sd_W D A s.heap (sd_wX h d T) H locs ∧ lv_has ls 6 [(0, .ref (h 0)), (1, .int (nI o1)), (2, .int (nI o2)), (3, .int (nI o3)), (4, .int (nI (S 0 11))), (5, .int (nI k))]) (fun nn k q T src H locs ls hI ih => ?_) _ 0 (S 0 11) S (fun _ => 0) _ _ _ ⟨rfl, Nat.zero_le _, rfl, Nat.le_refl _, Nat.le_refl _, (fun _ _ _ => rfl), (fun _ _ => rfl), (fun i hi => absurd hi (Nat.not_lt_zero _)), (fun _ _ _ => rfl), (fun i h1 h2 => by omega), (fun i j h1 h2 => by omega), (fun i hi => absurd hi (Nat.not_lt_zero _)), hW, lv_sub hl [2, 3, 4, 5, 1, 0] rfl⟩
  · skip
    obtain ⟨rfl, hk, tq, hq1, hq2, fc, fj, hA, hBk, hC, hC2, hD, hW, hl⟩ := hI
    refine lv_iload hX_ hB_ dX0_splitWaiting_9 (lv_at hl 5 rfl) ?_
    refine lv_iload hX_ hB_ dX0_splitWaiting_11 (lv_at hl 4 rfl) ?_
    refine sd_icmp_ge (tgt := 90) hX_ hB_ dX0_splitWaiting_13 (by decide) (by omega) (by omega) (fun c1 => ?_) (fun c1 => ?_)
    · skip
      have e : k = S 0 11 := by omega
      subst e
      obtain ⟨r1, r2⟩ := sd_sw rfl tq hq1 hA hC hC2 hD nd n3 hx
      exact sd_vret E hr hlk T hW ⟨fc, fj, r1, r2⟩ dX0_splitWaiting_90
    · skip
      have hvk := hv k (by omega)
      have eTk := hBk k (Nat.le_refl k) (by omega)
      refine lv_aload_n hX_ hB_ dX0_splitWaiting_16 rfl (lv_at hl 0 rfl) ?_
      refine sd_getX E hW 9 (v := .ref (h 5)) (by decide) rfl q36 dX0_splitWaiting_17 ?_
      refine lv_iload hX_ hB_ dX0_splitWaiting_20 (lv_at hl 5 rfl) ?_
      refine sd_ald (f := T 5) E hW 5 rfl (by omega) (by decide) dX0_splitWaiting_22 ?_
      rw [eTk]
      refine lv_iconst (v := nI 1) hX_ hB_ dX0_splitWaiting_23 (by decide) ?_
      refine sd_iushr hX_ hB_ dX0_splitWaiting_24 (by omega) (by omega) ?_
      refine lv_iload_n hX_ hB_ dX0_splitWaiting_25 rfl (lv_at hl 1 rfl) ?_
      rw [Nat.pow_one]
      refine sd_icmp_eq (tgt := 32) hX_ hB_ dX0_splitWaiting_26 (by decide) (by omega) (by omega) (fun c2 => ?_) (fun c2 => ?_)
      · skip
        refine lv_aload_n hX_ hB_ dX0_splitWaiting_32 rfl (lv_at hl 0 rfl) ?_
        refine sd_getX E hW 9 (v := .ref (h 5)) (by decide) rfl q36 dX0_splitWaiting_33 ?_
        refine lv_aload_n hX_ hB_ dX0_splitWaiting_36 rfl (lv_at hl 0 rfl) ?_
        refine sd_getX E hW 11 (v := .int (nI (T 0 11))) (by decide) rfl q38 dX0_splitWaiting_37 ?_
        rw [tq]
        refine lv_iload_n hX_ hB_ dX0_splitWaiting_40 rfl (lv_at hl 3 rfl) ?_
        refine lv_iconst (v := nI 1) hX_ hB_ dX0_splitWaiting_41 (by decide) ?_
        refine sd_ishl2 hX_ hB_ dX0_splitWaiting_42 ?_
        refine lv_aload_n hX_ hB_ dX0_splitWaiting_43 rfl (lv_at hl 0 rfl) ?_
        refine sd_getX E hW 9 (v := .ref (h 5)) (by decide) rfl q36 dX0_splitWaiting_44 ?_
        refine lv_iload hX_ hB_ dX0_splitWaiting_47 (lv_at hl 5 rfl) ?_
        refine sd_ald (f := T 5) E hW 5 rfl (by omega) (by decide) dX0_splitWaiting_49 ?_
        rw [eTk]
        refine lv_iconst (v := nI 1) hX_ hB_ dX0_splitWaiting_50 (by decide) ?_
        refine sd_iandE (sd_and1 _) hX_ hB_ dX0_splitWaiting_51 ?_
        refine sd_ior hX_ hB_ dX0_splitWaiting_52 ?_
        rw [sd_orx o3 (Nat.mod_lt _ (by decide))]
        refine sd_astX E hW 5 (by decide) (show q < 512 by omega) dX0_splitWaiting_53 (fun H locs hW => ?_)
        refine lv_aload_n hX_ hB_ dX0_splitWaiting_54 rfl (lv_at hl 0 rfl) ?_
        refine lv_dup hX_ hB_ dX0_splitWaiting_55 rfl ?_
        refine sd_getX E hW 11 (v := .int (nI (T 0 11))) (by decide) rfl q38 dX0_splitWaiting_56 ?_
        rw [tq]
        refine lv_iconst (v := nI 1) hX_ hB_ dX0_splitWaiting_59 (by decide) ?_
        refine sd_iadd hX_ hB_ dX0_splitWaiting_60 ?_
        refine sd_putX E hW 11 (by decide) rfl rfl q38 dX0_splitWaiting_61 (fun H locs hW => ?_)
        refine lv_aload_n hX_ hB_ dX0_splitWaiting_64 rfl (lv_at hl 0 rfl) ?_
        refine sd_getX E hW 9 (v := .ref (h 5)) (by decide) rfl q36 dX0_splitWaiting_65 ?_
        refine lv_iload hX_ hB_ dX0_splitWaiting_68 (lv_at hl 5 rfl) ?_
        refine lv_iload_n hX_ hB_ dX0_splitWaiting_70 rfl (lv_at hl 2 rfl) ?_
        refine lv_iconst (v := nI 1) hX_ hB_ dX0_splitWaiting_71 (by decide) ?_
        refine sd_ishl2 hX_ hB_ dX0_splitWaiting_72 ?_
        refine lv_aload_n hX_ hB_ dX0_splitWaiting_73 rfl (lv_at hl 0 rfl) ?_
        refine sd_getX E hW 9 (v := .ref (h 5)) (by decide) rfl q36 dX0_splitWaiting_74 ?_
        refine lv_iload hX_ hB_ dX0_splitWaiting_77 (lv_at hl 5 rfl) ?_
        refine sd_ald (f := (sd_up T 5 q (2 * o3 + S 5 k % 2)) 5) E hW 5 rfl (by omega) (by decide) dX0_splitWaiting_79 ?_
        rw [sd_up_j _ _ (show k ≠ q by omega), eTk]
        refine lv_iconst (v := nI 1) hX_ hB_ dX0_splitWaiting_80 (by decide) ?_
        refine sd_iandE (sd_and1 _) hX_ hB_ dX0_splitWaiting_81 ?_
        refine sd_ior hX_ hB_ dX0_splitWaiting_82 ?_
        rw [sd_orx o2 (Nat.mod_lt _ (by decide))]
        refine sd_astX E hW 5 (by decide) (show k < 512 by omega) dX0_splitWaiting_83 (fun H locs hW => ?_)
        refine sd_iinc (lv' := [(5, .int (nI (k + 1))), (0, .ref (h 0)), (1, .int (nI o1)), (2, .int (nI o2)), (3, .int (nI o3)), (4, .int (nI (S 0 11)))]) hX_ hB_ dX0_splitWaiting_84 hl (k := 5) rfl (by decide) rfl (fun ls hl => ?_)
        refine lv_goto (tgt := 9) hX_ hB_ dX0_splitWaiting_87 (by decide) ?_
        obtain ⟨U, hU⟩ : ∃ U, U = (sd_up (sd_up (sd_up T 5 q (2 * o3 + S 5 k % 2)) 0 11 (q + 1)) 5 k (2 * o2 + S 5 k % 2)) := ⟨_, rfl⟩
        rw [← hU] at hW
        have h5 : ∀ i, U 5 i = if i = k then 2 * o2 + S 5 k % 2 else if i = q then 2 * o3 + S 5 k % 2 else T 5 i := fun i => by rw [hU]; rfl
        exact ih _ (k + 1) (q + 1) U (fun i => if i = q then k else src i) H locs ls (by omega) ⟨rfl, by omega, (by rw [hU]; rfl), by omega, by omega, (fun c h0 h5 => by rw [hU, sd_up_c _ _ _ h5, sd_up_c _ _ _ h0, sd_up_c _ _ _ h5]; exact fc c h0 h5), (fun j hj => by rw [hU, sd_up_c _ _ _ (by decide), sd_up_j _ _ hj, sd_up_c _ _ _ (by decide)]; exact fj j hj), (fun i hi => by rw [h5]; by_cases z : i = k; (rw [if_pos z, z, if_pos c2]); (rw [if_neg z, if_neg (by omega)]; exact hA i (by omega))), (fun i hi hi2 => by rw [h5, if_neg (by omega), if_neg (by omega)]; exact hBk i (by omega) hi2), (fun i hi hi2 => by have h5i := h5 i; rw [if_neg (show i ≠ k by omega)] at h5i; by_cases z : i = q; (rw [h5i, if_pos z, if_pos z]; exact ⟨by omega, c2, rfl⟩); (rw [h5i, if_neg z, if_neg z]; obtain ⟨a1, a2, a3⟩ := hC i hi (by omega); exact ⟨by omega, a2, a3⟩)), (fun i j hi hi2 hj hj2 e => by by_cases z : i = q; (by_cases z2 : j = q; (omega); (simp only [if_pos z, if_neg z2] at e; have := (hC j hj (by omega)).1; omega)); (by_cases z2 : j = q; (simp only [if_neg z, if_pos z2] at e; have := (hC i hi (by omega)).1; omega); (simp only [if_neg z, if_neg z2] at e; exact hC2 i j hi (by omega) hj (by omega) e))), (fun i hi e => by by_cases z : i = k; (exact ⟨q, by omega, by omega, by rw [if_pos rfl, z]⟩); (obtain ⟨j, j1, j2, j3⟩ := hD i (by omega) e; exact ⟨j, j1, by omega, by rw [if_neg (by omega)]; exact j3⟩)), hW, lv_sub hl [1, 2, 3, 4, 5, 0] rfl⟩
      · skip
        refine lv_goto (tgt := 84) hX_ hB_ dX0_splitWaiting_29 (by decide) ?_
        refine sd_iinc (lv' := [(5, .int (nI (k + 1))), (0, .ref (h 0)), (1, .int (nI o1)), (2, .int (nI o2)), (3, .int (nI o3)), (4, .int (nI (S 0 11)))]) hX_ hB_ dX0_splitWaiting_84 hl (k := 5) rfl (by decide) rfl (fun ls hl => ?_)
        refine lv_goto (tgt := 9) hX_ hB_ dX0_splitWaiting_87 (by decide) ?_
        exact ih _ (k + 1) q T src H locs ls (by omega) ⟨rfl, by omega, tq, hq1, by omega, fc, fj, (fun i hi => by by_cases z : i = k; (rw [z, if_neg c2]; exact eTk); exact hA i (by omega)), (fun i hi hi2 => hBk i (by omega) hi2), (fun i hi hi2 => by obtain ⟨a1, a2, a3⟩ := hC i hi hi2; exact ⟨by omega, a2, a3⟩), hC2, (fun i hi e => by by_cases z : i = k; (subst z; exact absurd e c2); exact hD i (by omega) e), hW, lv_sub hl [1, 2, 3, 4, 5, 0] rfl⟩
end
section
/-! PURE 2: splitting sets. S 0 10 sets S 4 k; what waits: S 0 11 numbers S 5 i -/
theorem sd_ex_bit {a : Nat} (h : a ≠ 0) : ∃ i, a.testBit i = true := by
  apply Classical.byContradiction
  intro hno
  apply h
  apply Nat.eq_of_testBit_eq
  intro i
  rw [Nat.zero_testBit]
  cases e : a.testBit i with
  | false => rfl
  | true => exact absurd ⟨i, e⟩ hno
theorem dm_pigR {m n : Nat} (R : Nat → Nat → Prop) (h : ∀ k, k < m → ∃ p, p < n ∧ R k p) (inj : ∀ k k' p, k < m → k' < m → R k p → R k' p → k = k') : m ≤ n := by
  have h' : ∀ k, ∃ p, k < m → p < n ∧ R k p := by
    intro k
    by_cases hk : k < m
    · obtain ⟨p, hp⟩ := h k hk
      exact ⟨p, fun _ => hp⟩
    · exact ⟨0, fun z => absurd z hk⟩
  obtain ⟨f, hf⟩ := Classical.axiomOfChoice h'
  exact dm_pig (f := f) (fun p hp => (hf p hp).1) (fun p q hp hq e => inj p q (f p) hp hq (hf p hp).2 (by rw [e]; exact (hf q hq).2))
/-- the sets: not empty, apart, all; closed under equivalence, of one colour. What waits: sets with a letter, each once; a letter that leads from one set into two has one of them waiting, but for 'exc' -/
def sd_HP (n : Nat) (g : Nat → Nat) (F : Nat → Bool) (S : Nat → Nat → Nat) (exc : Nat → Nat → Nat → Prop) : Prop :=
  (∀ k, k < S 0 10 → S 4 k < 2 ^ n ∧ S 4 k ≠ 0) ∧
  (∀ p, p < n → ∃ k, k < S 0 10 ∧ (S 4 k).testBit p = true) ∧
  (∀ k k' p, k < S 0 10 → k' < S 0 10 → (S 4 k).testBit p = true → (S 4 k').testBit p = true → k = k') ∧
  (∀ k p q, k < S 0 10 → p < n → q < n → dm_eq g F p q → (S 4 k).testBit p = true → (S 4 k).testBit q = true) ∧
  (∀ k p q, k < S 0 10 → (S 4 k).testBit p = true → (S 4 k).testBit q = true → F p = F q) ∧
  (∀ v, sd_in S v → ∃ k x, k < S 0 10 ∧ x < 2 ∧ v = 2 * S 4 k + x) ∧
  sd_nd S ∧
  (∀ k k1 k2 p q x, k < S 0 10 → k1 < S 0 10 → k2 < S 0 10 → x < 2 → (S 4 k).testBit p = true → (S 4 k).testBit q = true → (S 4 k1).testBit (g (2 * p + x)) = true → (S 4 k2).testBit (g (2 * q + x)) = true → k1 ≠ k2 → sd_in S (2 * S 4 k1 + x) ∨ sd_in S (2 * S 4 k2 + x) ∨ exc p q x)
section
variable {n : Nat} {g : Nat → Nat} {F : Nat → Bool} {S U : Nat → Nat → Nat} {exc : Nat → Nat → Nat → Prop}
theorem sd_HP.sets (h : sd_HP n g F S exc) : S 0 10 ≤ n := by
  obtain ⟨b2, b3, b4, -⟩ := h
  refine dm_pigR (fun k p => (S 4 k).testBit p = true) (fun k hk => ?_) (fun k k' p hk hk' => b4 k k' p hk hk')
  obtain ⟨i, hi⟩ := sd_ex_bit (b2 k hk).2
  exact ⟨i, sd_bit_lt (b2 k hk).1 hi, hi⟩
theorem sd_HP.waits (h : sd_HP n g F S exc) : S 0 11 ≤ 2 * S 0 10 := by
  obtain ⟨b2, b3, b4, b5, b6, w1, w2, -⟩ := h
  refine dm_pigR (fun i c => ∃ k x, k < S 0 10 ∧ x < 2 ∧ S 5 i = 2 * S 4 k + x ∧ c = 2 * k + x) (fun i hi => ?_) ?_
  · obtain ⟨k, x, hk, hx, e⟩ := w1 _ ⟨i, hi, rfl⟩
    exact ⟨2 * k + x, by omega, k, x, hk, hx, e, rfl⟩
  · rintro i i' c hi hi' ⟨k, x, hk, hx, e, ec⟩ ⟨k', x', hk', hx', e', ec'⟩
    have ek : k = k' := by omega
    have ex : x = x' := by omega
    subst ek ex
    exact w2 i i' hi hi' (by rw [e, e'])
theorem sd_HP.wlt (h : sd_HP n g F S exc) (hn : n ≤ 16) {i : Nat} (hi : i < S 0 11) : S 5 i < 2 ^ 17 := by
  obtain ⟨k, x, hk, hx, e⟩ := h.2.2.2.2.2.1 _ ⟨i, hi, rfl⟩
  have h1 := (h.1 k hk).1
  have h2 : 2 ^ n ≤ 2 ^ 16 := Nat.pow_le_pow_right (by decide) hn
  omega
theorem sd_HP.diff (h : sd_HP n g F S exc) {j k : Nat} (hj : j < S 0 10) (hk : k < S 0 10) (hne : j ≠ k) : S 4 j ≠ S 4 k := by
  intro e
  obtain ⟨i, hi⟩ := sd_ex_bit (h.1 j hj).2
  exact hne (h.2.2.1 j k i hj hk hi (by rw [← e]; exact hi))
/-- a set is split by f -/
theorem sd_HP.split (h : sd_HP n g F S exc) {k f : Nat} (hk : k < S 0 10) (hf : ∀ p q, p < n → q < n → dm_eq g F p q → f.testBit p = f.testBit q) (h1 : S 4 k &&& f ≠ 0) (h2 : sd_no (S 4 k) f ≠ 0)
    (um : U 0 10 = S 0 10 + 1) (uk : U 4 k = S 4 k &&& f) (uo : U 4 (S 0 10) = sd_no (S 4 k) f) (uj : ∀ j, j < S 0 10 → j ≠ k → U 4 j = S 4 j)
    (i1 : ∀ v, sd_in S v → v / 2 ≠ S 4 k → sd_in U v) (i2 : ∀ x, x < 2 → sd_in S (2 * S 4 k + x) → sd_in U (2 * (S 4 k &&& f) + x) ∧ sd_in U (2 * sd_no (S 4 k) f + x)) (i3 : ∀ x, x < 2 → ¬ sd_in S (2 * S 4 k + x) → sd_in U (2 * (S 4 k &&& f) + x) ∨ sd_in U (2 * sd_no (S 4 k) f + x))
    (i4 : ∀ v, sd_in U v → (sd_in S v ∧ v / 2 ≠ S 4 k) ∨ ∃ x, x < 2 ∧ (v = 2 * (S 4 k &&& f) + x ∨ v = 2 * sd_no (S 4 k) f + x)) (i5 : sd_nd U) : sd_HP n g F U exc := by
  have hd := fun {j : Nat} (hj : j < S 0 10) (hne : j ≠ k) => h.diff hj hk hne
  obtain ⟨b2, b3, b4, b5, b6, w1, w2, hx⟩ := h
  -- where a set of the new list lies in the old one
  have hphi : ∀ j, j < U 0 10 → ∃ j', j' < S 0 10 ∧ (∀ p, (U 4 j).testBit p = true → (S 4 j').testBit p = true) ∧ ((j' = j ∧ j ≠ k ∧ U 4 j = S 4 j) ∨ (j' = k ∧ j = k) ∨ (j' = k ∧ j = S 0 10)) := by
    intro j hj
    rw [um] at hj
    by_cases a : j = k
    · refine ⟨k, hk, fun p hp => ?_, Or.inr (Or.inl ⟨rfl, a⟩)⟩
      rw [a, uk, Nat.testBit_and, Bool.and_eq_true] at hp
      exact hp.1
    · by_cases b : j = S 0 10
      · refine ⟨k, hk, fun p hp => ?_, Or.inr (Or.inr ⟨rfl, b⟩)⟩
        rw [b, uo, sd_no_bit, Bool.and_eq_true] at hp
        exact hp.1
      · have hj2 : j < S 0 10 := by omega
        refine ⟨j, hj2, fun p hp => ?_, Or.inl ⟨rfl, a, uj j hj2 a⟩⟩
        rw [← uj j hj2 a]
        exact hp
  have hin : ∀ p, (U 4 k).testBit p = true → f.testBit p = true := fun p hp => by
    rw [uk, Nat.testBit_and, Bool.and_eq_true] at hp
    exact hp.2
  have hout : ∀ p, (U 4 (S 0 10)).testBit p = true → f.testBit p = false := fun p hp => by
    rw [uo, sd_no_bit, Bool.and_eq_true] at hp
    simpa using hp.2
  have kne : k ≠ S 0 10 := by omega
  refine ⟨fun j hj => ?_, fun p hp => ?_, fun j j' p hj hj' ha hb => ?_, fun j p q hj hp hq he ha => ?_, fun j p q hj ha hb => ?_, fun v hv => ?_, i5, fun j j1 j2 p q x hj hj1 hj2 hx2 hp hq ha hb hne => ?_⟩
  · rw [um] at hj
    by_cases a : j = k
    · rw [a, uk]
      exact ⟨Nat.lt_of_le_of_lt Nat.and_le_left (b2 k hk).1, h1⟩
    · by_cases b : j = S 0 10
      · rw [b, uo]
        exact ⟨sd_no_lt (b2 k hk).1, h2⟩
      · rw [uj j (by omega) a]
        exact b2 j (by omega)
  · obtain ⟨j, hj, hb⟩ := b3 p hp
    by_cases a : j = k
    · subst a
      by_cases c : f.testBit p = true
      · exact ⟨j, by omega, by rw [uk, Nat.testBit_and, hb, c]; rfl⟩
      · exact ⟨S 0 10, by omega, by rw [uo, sd_no_bit, hb]; simpa using c⟩
    · exact ⟨j, by omega, by rw [uj j hj a]; exact hb⟩
  · obtain ⟨k1, hk1, p1, c1⟩ := hphi j hj
    obtain ⟨k2, hk2, p2, c2⟩ := hphi j' hj'
    have e := b4 k1 k2 p hk1 hk2 (p1 p ha) (p2 p hb)
    rcases c1 with ⟨a1, a2, -⟩ | ⟨a1, a2⟩ | ⟨a1, a2⟩
    · rcases c2 with ⟨d1, d2, -⟩ | ⟨d1, d2⟩ | ⟨d1, d2⟩ <;> omega
    · rcases c2 with ⟨d1, d2, -⟩ | ⟨d1, d2⟩ | ⟨d1, d2⟩
      · omega
      · omega
      · rw [a2] at ha
        rw [d2] at hb
        exact absurd (hout p hb) (by rw [hin p ha]; decide)
    · rcases c2 with ⟨d1, d2, -⟩ | ⟨d1, d2⟩ | ⟨d1, d2⟩
      · omega
      · rw [a2] at ha
        rw [d2] at hb
        exact absurd (hout p ha) (by rw [hin p hb]; decide)
      · omega
  · have he2 := hf p q hp hq he
    rw [um] at hj
    by_cases a : j = k
    · subst a
      rw [uk, Nat.testBit_and, Bool.and_eq_true] at ha ⊢
      exact ⟨b5 j p q hk hp hq he ha.1, by rw [← he2]; exact ha.2⟩
    · by_cases b : j = S 0 10
      · subst b
        rw [uo, sd_no_bit, Bool.and_eq_true] at ha ⊢
        exact ⟨b5 k p q hk hp hq he ha.1, by rw [← he2]; exact ha.2⟩
      · rw [uj j (by omega) a] at ha ⊢
        exact b5 j p q (by omega) hp hq he ha
  · obtain ⟨k1, hk1, p1, -⟩ := hphi j hj
    exact b6 k1 p q hk1 (p1 p ha) (p1 q hb)
  · rcases i4 v hv with ⟨hs, hne⟩ | ⟨x, hx2, hv2⟩
    · obtain ⟨j, x, hj, hx2, e⟩ := w1 v hs
      have hjk : j ≠ k := fun z => hne (by rw [e, z]; omega)
      exact ⟨j, x, by omega, hx2, by rw [uj j hj hjk]; exact e⟩
    · rcases hv2 with e | e
      · exact ⟨k, x, by omega, hx2, by rw [uk]; exact e⟩
      · exact ⟨S 0 10, x, by omega, hx2, by rw [uo]; exact e⟩
  · obtain ⟨k0, hk0, p0, c0⟩ := hphi j hj
    obtain ⟨k1, hk1, p1, c1⟩ := hphi j1 hj1
    obtain ⟨k2, hk2, p2, c2⟩ := hphi j2 hj2
    -- what waits for an old set waits for each of its halves
    have up1 : ∀ j k', ((k' = j ∧ j ≠ k ∧ U 4 j = S 4 j) ∨ (k' = k ∧ j = k) ∨ (k' = k ∧ j = S 0 10)) → k' < S 0 10 → sd_in S (2 * S 4 k' + x) → sd_in U (2 * U 4 j + x) := by
      intro j k' hc hk' hs
      rcases hc with ⟨a1, a2, a3⟩ | ⟨a1, a2⟩ | ⟨a1, a2⟩
      · subst a1
        rw [a3]
        refine i1 _ hs ?_
        rw [show (2 * S 4 k' + x) / 2 = S 4 k' by omega]
        exact hd hk' a2
      · subst a1
        rw [a2, uk]
        exact (i2 x hx2 hs).1
      · subst a1
        rw [a2, uo]
        exact (i2 x hx2 hs).2
    by_cases e : k1 = k2
    · -- both halves of the set that was split
      have hkk : (j1 = k ∧ j2 = S 0 10) ∨ (j1 = S 0 10 ∧ j2 = k) := by
        rcases c1 with ⟨a1, a2, -⟩ | ⟨a1, a2⟩ | ⟨a1, a2⟩ <;> rcases c2 with ⟨d1, d2, -⟩ | ⟨d1, d2⟩ | ⟨d1, d2⟩ <;> omega
      by_cases hs : sd_in S (2 * S 4 k + x)
      · obtain ⟨q1, q2⟩ := i2 x hx2 hs
        rcases hkk with ⟨a, b⟩ | ⟨a, b⟩
        · left; rw [a, uk]; exact q1
        · left; rw [a, uo]; exact q2
      · rcases i3 x hx2 hs with q1 | q1
        · rcases hkk with ⟨a, b⟩ | ⟨a, b⟩
          · left; rw [a, uk]; exact q1
          · right; left; rw [b, uk]; exact q1
        · rcases hkk with ⟨a, b⟩ | ⟨a, b⟩
          · right; left; rw [b, uo]; exact q1
          · left; rw [a, uo]; exact q1
    · rcases hx k0 k1 k2 p q x hk0 hk1 hk2 hx2 (p0 p hp) (p0 q hq) (p1 _ ha) (p2 _ hb) e with z | z | z
      · exact Or.inl (up1 j1 k1 c1 hk1 z)
      · exact Or.inr (Or.inl (up1 j2 k2 c2 hk2 z))
      · exact Or.inr (Or.inr z)
end
end
section
theorem sd_XB_of {n : Nat} {g : Nat → Nat} {F : Nat → Bool} {S u : Nat → Nat → Nat} (hB : sd_XB n g F S) (h0 : u 0 0 = S 0 0) (h1 : u 0 1 = S 0 1) (h2 : u 1 = S 1) : sd_XB n g F u := by
  obtain ⟨a, b, c, d, e⟩ := hB
  exact ⟨a, by rw [h0]; exact b, by rw [h2]; exact c, by rw [h1]; exact d, by rw [h1]; exact e⟩
/-- every set j is of one side of f -/
def sd_un (S : Nat → Nat → Nat) (f j : Nat) : Prop := ∀ p q, (S 4 j).testBit p = true → (S 4 j).testBit q = true → f.testBit p = f.testBit q

set_option maxHeartbeats 4000000 in
set_option maxRecDepth 100000 in
/-- a set is split -/
theorem m_split (l : Launch) (D : va_G) (d : Nat → ClassId) (h : Nat → Nat) (S : Nat → Nat → Nat) {n : Nat} {g : Nat → Nat} {F : Nat → Bool} (hB : sd_XB n g F S) {k f a : Nat} (hf : f < 2 ^ 16) (hfe : ∀ p q, p < n → q < n → dm_eq g F p q → f.testBit p = f.testBit q) (hP : sd_HP n g F S (fun p q x => x = a ∧ f.testBit p ≠ f.testBit q)) (hk : k < S 0 10) (sz : Nat) : Met l yX0_split (ws_ yX0_split cX0_split 8 none) (sd_rm 1) (va_Pc [.ref (h 0), .int (nI k), .int (nI f)] (sd_P D d (sd_wX h d S) sz)) (sd_Qv D (fun u : Nat → Nat → Nat => (∀ c, c ≠ 0 → c ≠ 4 → c ≠ 5 → u c = S c) ∧ (∀ j, j ≠ 10 → j ≠ 11 → u 0 j = S 0 j) ∧ sd_HP n g F u (fun p q x => x = a ∧ f.testBit p ≠ f.testBit q) ∧ S 0 10 ≤ u 0 10 ∧ (∀ j, j < S 0 10 → j ≠ k → u 4 j = S 4 j) ∧ sd_un u f k ∧ (∀ j, S 0 10 ≤ j → j < u 0 10 → sd_un u f j) ∧ (u 0 10 = S 0 10 → u 0 11 = S 0 11)) (fun u => sd_wX h d u) (va_A (sd_wX h d S) sz)) 0 0 (va_A (sd_wX h d S) sz) := by
  refine sd_ofW (Qc := sd_Qv D (fun u : Nat → Nat → Nat => (∀ c, c ≠ 0 → c ≠ 4 → c ≠ 5 → u c = S c) ∧ (∀ j, j ≠ 10 → j ≠ 11 → u 0 j = S 0 j) ∧ sd_HP n g F u (fun p q x => x = a ∧ f.testBit p ≠ f.testBit q) ∧ S 0 10 ≤ u 0 10 ∧ (∀ j, j < S 0 10 → j ≠ k → u 4 j = S 4 j) ∧ sd_un u f k ∧ (∀ j, S 0 10 ≤ j → j < u 0 10 → sd_un u f j) ∧ (u 0 10 = S 0 10 → u 0 11 = S 0 11)) (fun u => sd_wX h d u)) (own := RX0) (by decide) rfl (Nat.le_of_ble_eq_true rfl) ?_
  intro p e s m below meth c ls A E hr hlk hnm hA hW hl
  have hX_ := E.1.1
  have hB_ := E.1.2.1
  have hown := E.1.2.2.2.1
  have hts := E.1.2.2.2.2
  have hl : lv_has ls 8 [(0, .ref (h 0)), (1, .int (nI k)), (2, .int (nI f))] := hl
  obtain ⟨⟨hn1, hn2, hg⟩, e0, e1, e2, e3⟩ := id hB
  have hm := hP.sets
  have hq := hP.waits
  have hold := hP.1 k hk
  have h2n : 2 ^ n ≤ 2 ^ 16 := Nat.pow_le_pow_right (by decide) hn2
  refine lv_aload_n hX_ hB_ dX0_split_0 rfl (lv_at hl 0 rfl) ?_
  refine sd_getX E hW 8 (v := .ref (h 4)) (by decide) rfl q35 dX0_split_1 ?_
  refine lv_iload_n hX_ hB_ dX0_split_4 rfl (lv_at hl 1 rfl) ?_
  refine sd_ald (f := S 4) E hW 4 rfl (by omega) (by decide) dX0_split_5 ?_
  refine lv_istore_n (lv' := [(3, .int (nI (S 4 k))), (0, .ref (h 0)), (1, .int (nI k)), (2, .int (nI f))]) hX_ hB_ dX0_split_6 rfl hl (by decide) rfl (fun ls hl => ?_)
  obtain ⟨old, eo⟩ : ∃ old, old = S 4 k := ⟨_, rfl⟩
  rw [← eo] at hl hold
  refine lv_iload_n hX_ hB_ dX0_split_7 rfl (lv_at hl 0 rfl) ?_
  refine lv_iload_n hX_ hB_ dX0_split_8 rfl (lv_at hl 3 rfl) ?_
  refine sd_iand hX_ hB_ dX0_split_9 ?_
  refine lv_istore (lv' := [(4, .int (nI (old &&& f))), (3, .int (nI old)), (0, .ref (h 0)), (1, .int (nI k)), (2, .int (nI f))]) hX_ hB_ dX0_split_10 hl (by decide) rfl (fun ls hl => ?_)
  refine lv_iload_n hX_ hB_ dX0_split_12 rfl (lv_at hl 1 rfl) ?_
  refine lv_iload_n hX_ hB_ dX0_split_13 rfl (lv_at hl 4 rfl) ?_
  refine lv_iconst (v := -1) hX_ hB_ dX0_split_14 (by decide) ?_
  refine lv_ixor hX_ hB_ dX0_split_15 ?_
  refine sd_iandE (sd_andn _ _) hX_ hB_ dX0_split_16 ?_
  refine lv_istore (lv' := [(5, .int (nI (sd_no old f))), (4, .int (nI (old &&& f))), (3, .int (nI old)), (0, .ref (h 0)), (1, .int (nI k)), (2, .int (nI f))]) hX_ hB_ dX0_split_17 hl (by decide) rfl (fun ls hl => ?_)
  obtain ⟨i1, ei⟩ : ∃ i1, i1 = old &&& f := ⟨_, rfl⟩
  obtain ⟨o1, eu⟩ : ∃ o1, o1 = sd_no old f := ⟨_, rfl⟩
  rw [← ei, ← eu] at hl
  have hi1 : i1 ≤ old := by rw [ei]; exact Nat.and_le_left
  have ho1 : o1 < 2 ^ n := by rw [eu]; exact sd_no_lt hold.1
  have bi : ∀ p, i1.testBit p = (old.testBit p && f.testBit p) := fun p => by rw [ei, Nat.testBit_and]
  have bo : ∀ p, o1.testBit p = (old.testBit p && !f.testBit p) := fun p => by rw [eu, sd_no_bit]
  refine lv_iload hX_ hB_ dX0_split_19 (lv_at hl 1 rfl) ?_
  refine sd_if_eq (tgt := 29) hX_ hB_ dX0_split_21 (by decide) (by omega) (fun c1 => ?_) (fun c1 => ?_)
  · skip
    have hun : sd_un S f k := by
      intro p q hp hq
      rw [← eo] at hp hq
      have z1 := bi p
      have z2 := bi q
      rw [c1, Nat.zero_testBit, hp] at z1
      rw [c1, Nat.zero_testBit, hq] at z2
      simp at z1 z2
      rw [z1, z2]
    exact sd_vret E hr hlk S hW ⟨fun _ _ _ _ => rfl, fun _ _ _ => rfl, hP, Nat.le_refl _, fun _ _ _ => rfl, hun, fun j h1 h2 => by omega, fun _ => rfl⟩ dX0_split_29
  · skip
    refine lv_iload hX_ hB_ dX0_split_24 (lv_at hl 0 rfl) ?_
    refine sd_if_ne (tgt := 30) hX_ hB_ dX0_split_26 (by decide) (by omega) (fun c2 => ?_) (fun c2 => ?_)
    · skip
      have nio : i1 ≠ o1 := by
        intro z
        obtain ⟨p, hp⟩ := sd_ex_bit c1
        have z1 := hp
        rw [bi] at z1
        rw [z, bo] at hp
        revert z1 hp
        cases old.testBit p <;> cases f.testBit p <;> simp
      have noi : old ≠ i1 := by
        intro z
        obtain ⟨p, hp⟩ := sd_ex_bit c2
        have z1 := bi p
        rw [← z] at z1
        rw [bo] at hp
        revert z1 hp
        cases old.testBit p <;> cases f.testBit p <;> simp
      have noo : old ≠ o1 := by
        intro z
        obtain ⟨p, hp⟩ := sd_ex_bit c1
        have z1 := bo p
        rw [← z] at z1
        rw [bi] at hp
        revert z1 hp
        cases old.testBit p <;> cases f.testBit p <;> simp
      have hmn : S 0 10 + 1 ≤ n := by
        have hpr : ∀ j, j < S 0 10 + 1 → ∃ p, p < n ∧ (if j = k then i1 else if j = S 0 10 then o1 else S 4 j).testBit p = true := by
          intro j hj
          by_cases z : j = k
          · rw [if_pos z]
            obtain ⟨p, hp⟩ := sd_ex_bit c1
            exact ⟨p, sd_bit_lt (Nat.lt_of_le_of_lt hi1 hold.1) hp, hp⟩
          · rw [if_neg z]
            by_cases z2 : j = S 0 10
            · rw [if_pos z2]
              obtain ⟨p, hp⟩ := sd_ex_bit c2
              exact ⟨p, sd_bit_lt ho1 hp, hp⟩
            · rw [if_neg z2]
              obtain ⟨p, hp⟩ := sd_ex_bit (hP.1 j (by omega)).2
              exact ⟨p, sd_bit_lt (hP.1 j (by omega)).1 hp, hp⟩
        refine dm_pigR (fun j p => (if j = k then i1 else if j = S 0 10 then o1 else S 4 j).testBit p = true) hpr (fun j j' p hj hj' ha hb => ?_)
        have key : ∀ j, j < S 0 10 + 1 → (if j = k then i1 else if j = S 0 10 then o1 else S 4 j).testBit p = true → ∃ j', j' < S 0 10 ∧ (S 4 j').testBit p = true ∧ ((j = k ∧ j' = k ∧ f.testBit p = true) ∨ (j = S 0 10 ∧ j' = k ∧ f.testBit p = false) ∨ (j ≠ k ∧ j ≠ S 0 10 ∧ j' = j)) := by
          intro j hj ha
          by_cases z : j = k
          · rw [if_pos z, bi, Bool.and_eq_true] at ha
            exact ⟨k, hk, by rw [← eo]; exact ha.1, Or.inl ⟨z, rfl, ha.2⟩⟩
          · rw [if_neg z] at ha
            by_cases z2 : j = S 0 10
            · rw [if_pos z2, bo, Bool.and_eq_true] at ha
              exact ⟨k, hk, by rw [← eo]; exact ha.1, Or.inr (Or.inl ⟨z2, rfl, by simpa using ha.2⟩)⟩
            · rw [if_neg z2] at ha
              exact ⟨j, by omega, ha, Or.inr (Or.inr ⟨z, z2, rfl⟩)⟩
        obtain ⟨k1, h1, p1, d1⟩ := key j hj ha
        obtain ⟨k2, h2, p2, d2⟩ := key j' hj' hb
        have e := hP.2.2.1 k1 k2 p h1 h2 p1 p2
        rcases d1 with ⟨x1, x2, x3⟩ | ⟨x1, x2, x3⟩ | ⟨x1, x2, x3⟩ <;> rcases d2 with ⟨y1, y2, y3⟩ | ⟨y1, y2, y3⟩ | ⟨y1, y2, y3⟩
        · omega
        · rw [x3] at y3; cases y3
        · omega
        · rw [x3] at y3; cases y3
        · omega
        · omega
        · omega
        · omega
        · omega
      have hni : ∀ x, x < 2 → ¬ sd_in S (2 * i1 + x) ∧ ¬ sd_in S (2 * o1 + x) := by
        intro x hx
        have key : ∀ z b, (∃ p, z.testBit p = true) → (∀ p, z.testBit p = true → old.testBit p = true) → old ≠ z → b < 2 → ¬ sd_in S (2 * z + b) := by
          intro z b hz hs hne hb hin
          obtain ⟨j, y, hj, hy, e⟩ := hP.2.2.2.2.2.1 _ hin
          have ez : z = S 4 j := by omega
          obtain ⟨p, hp⟩ := hz
          have := hP.2.2.1 k j p hk hj (by rw [← eo]; exact hs p hp) (by rw [← ez]; exact hp)
          subst this
          exact hne (by rw [eo, ez])
        refine ⟨key i1 x (sd_ex_bit c1) (fun p hp => ?_) noi hx, key o1 x (sd_ex_bit c2) (fun p hp => ?_) noo hx⟩
        · rw [bi, Bool.and_eq_true] at hp; exact hp.1
        · rw [bo, Bool.and_eq_true] at hp; exact hp.1
      refine lv_aload_n hX_ hB_ dX0_split_30 rfl (lv_at hl 3 rfl) ?_
      refine sd_getX E hW 8 (v := .ref (h 4)) (by decide) rfl q35 dX0_split_31 ?_
      refine lv_iload_n hX_ hB_ dX0_split_34 rfl (lv_at hl 4 rfl) ?_
      refine lv_iload hX_ hB_ dX0_split_35 (lv_at hl 1 rfl) ?_
      refine sd_astX E hW 4 (by decide) (show k < 16 by omega) dX0_split_37 (fun H locs hW => ?_)
      refine lv_aload_n hX_ hB_ dX0_split_38 rfl (lv_at hl 3 rfl) ?_
      refine sd_getX E hW 8 (v := .ref (h 4)) (by decide) rfl q35 dX0_split_39 ?_
      refine lv_aload_n hX_ hB_ dX0_split_42 rfl (lv_at hl 3 rfl) ?_
      refine sd_getX E hW 10 (v := .int (nI (S 0 10))) (by decide) rfl q37 dX0_split_43 ?_
      refine lv_iload hX_ hB_ dX0_split_46 (lv_at hl 0 rfl) ?_
      refine sd_astX E hW 4 (by decide) (show S 0 10 < 16 by omega) dX0_split_48 (fun H locs hW => ?_)
      refine lv_aload_n hX_ hB_ dX0_split_49 rfl (lv_at hl 3 rfl) ?_
      refine lv_dup hX_ hB_ dX0_split_50 rfl ?_
      refine sd_getX E hW 10 (v := .int (nI (S 0 10))) (by decide) rfl q37 dX0_split_51 ?_
      refine lv_iconst (v := nI 1) hX_ hB_ dX0_split_54 (by decide) ?_
      refine sd_iadd hX_ hB_ dX0_split_55 ?_
      refine sd_putX E hW 10 (by decide) rfl rfl q37 dX0_split_56 (fun H locs hW => ?_)
      refine lv_iload hX_ hB_ dX0_split_59 (lv_at hl 1 rfl) ?_
      refine sd_callSi (y := yJ1_bitCount) (by_ := cJ1_bitCount) E hW hA [.int (nI i1)] (m_bitCount l D d (sd_wX h d ((sd_up (sd_up (sd_up S 4 k i1) 4 (S 0 10) o1) 0 10 ((S 0 10) + 1)))) (v := i1) (by omega) _) (va_cwS 1 hts (lw_S q110 q111 q17 q112) rfl rfl rfl (by decide +kernel) ⟨Nat.le_of_ble_eq_true rfl, Nat.le_of_ble_eq_true rfl⟩) rfl (fun _ => rfl) hl.1 rfl (Nat.le_of_ble_eq_true rfl) dX0_split_61 ⟨Nat.zero_le _, Nat.zero_le _⟩ (fun r x_ H locs hw hW => ?_)
      subst hw
      have hpc_i1 := dm_cnt_le (fun i => (i1).testBit i) 16
      have hpd_i1 : sd_pc i1 ≤ 16 := hpc_i1
      refine lv_iload hX_ hB_ dX0_split_64 (lv_at hl 0 rfl) ?_
      refine sd_callSi (y := yJ1_bitCount) (by_ := cJ1_bitCount) E hW hA [.int (nI o1)] (m_bitCount l D d (sd_wX h d ((sd_up (sd_up (sd_up S 4 k i1) 4 (S 0 10) o1) 0 10 ((S 0 10) + 1)))) (v := o1) (by omega) _) (va_cwS 1 hts (lw_S q110 q111 q17 q112) rfl rfl rfl (by decide +kernel) ⟨Nat.le_of_ble_eq_true rfl, Nat.le_of_ble_eq_true rfl⟩) rfl (fun _ => rfl) hl.1 rfl (Nat.le_of_ble_eq_true rfl) dX0_split_66 ⟨Nat.zero_le _, Nat.zero_le _⟩ (fun r x_ H locs hw hW => ?_)
      subst hw
      have hpc_o1 := dm_cnt_le (fun i => (o1).testBit i) 16
      have hpd_o1 : sd_pc o1 ≤ 16 := hpc_o1
      refine sd_cut (fun z : Nat => z = i1 ∨ z = o1) (fun z => F0 m 79 ls [.int (nI z)]) (fun z hz => ?_) (fun J => ?_)
      · skip
        obtain ⟨V, hV⟩ : ∃ V, V = (sd_up (sd_up (sd_up S 4 k i1) 4 (S 0 10) o1) 0 10 ((S 0 10) + 1)) := ⟨_, rfl⟩
        rw [← hV] at hW
        have v11 : V 0 11 = S 0 11 := by rw [hV]; rfl
        have v5 : V 5 = S 5 := by rw [hV]; rfl
        have v10 : V 0 10 = S 0 10 + 1 := by rw [hV]; rfl
        have v4 : ∀ j, V 4 j = if j = S 0 10 then o1 else if j = k then i1 else S 4 j := fun j => by rw [hV]; rfl
        have vc : ∀ c, c ≠ 0 → c ≠ 4 → V c = S c := fun c h0 h4 => by rw [hV, sd_up_c _ _ _ h0, sd_up_c _ _ _ h4, sd_up_c _ _ _ h4]
        have vj : ∀ j, j ≠ 10 → V 0 j = S 0 j := fun j hj => by rw [hV, sd_up_j _ _ hj, sd_up_c _ _ _ (by decide), sd_up_c _ _ _ (by decide)]
        have vin : ∀ v, sd_in V v ↔ sd_in S v := fun v => by unfold sd_in; rw [v11, v5]
        have zlt : z < 2 ^ 16 := by rcases hz with q | q <;> omega
        have zne : z ≠ old := by rcases hz with q | q <;> rw [q]; exact noi.symm; exact noo.symm
        refine lv_istore (lv' := [(6, .int (nI z)), (5, .int (nI o1)), (4, .int (nI i1)), (3, .int (nI old)), (0, .ref (h 0)), (1, .int (nI k)), (2, .int (nI f))]) hX_ hB_ dX0_split_79 hl (by decide) rfl (fun ls hl => ?_)
        refine lv_iconst (v := nI 0) hX_ hB_ dX0_split_81 (by decide) ?_
        refine lv_istore (lv' := [(7, .int (nI 0)), (6, .int (nI z)), (5, .int (nI o1)), (4, .int (nI i1)), (3, .int (nI old)), (0, .ref (h 0)), (1, .int (nI k)), (2, .int (nI f))]) hX_ hB_ dX0_split_82 hl (by decide) rfl (fun ls hl => ?_)
        refine sd_loop2 (fun nn (y : Nat) (T : Nat → Nat → Nat) H locs ls => nn = 2 - y ∧ (y ≤ 2) ∧ (∀ c, c ≠ 0 → c ≠ 5 → T c = V c) ∧ (∀ j, j ≠ 11 → T 0 j = V 0 j) ∧ (T 0 11 ≤ S 0 11 + y) ∧ (sd_nd T) ∧ (∀ v, sd_in T v ↔ sd_in S v ∨ ∃ x, x < y ∧ ¬ sd_in S (2 * old + x) ∧ v = 2 * z + x) ∧ sd_W D A s.heap (sd_wX h d T) H locs ∧ lv_has ls 8 [(0, .ref (h 0)), (3, .int (nI old)), (4, .int (nI i1)), (5, .int (nI o1)), (6, .int (nI z)), (7, .int (nI y))]) (fun nn y T H locs ls hI ih => ?_) _ 0 V _ _ _ ⟨rfl, Nat.zero_le _, (fun _ _ _ => rfl), (fun _ _ => rfl), (by rw [v11]; exact Nat.le_refl _), (by unfold sd_nd; rw [v11, v5]; exact hP.2.2.2.2.2.2.1), (fun v => by rw [vin]; exact ⟨Or.inl, fun q => by rcases q with q | ⟨x, hx, -⟩; exact q; omega⟩), hW, lv_sub hl [5, 4, 3, 2, 1, 0] rfl⟩
        · skip
          obtain ⟨rfl, hy, fc, fj, tq, tn, ti, hW, hl⟩ := hI
          have tlt : ∀ i, i < T 0 11 → T 5 i < 2 ^ 17 := by
            intro i hi
            rcases (ti (T 5 i)).mp ⟨i, hi, rfl⟩ with ⟨i2, h1, h2⟩ | ⟨x, hx, -, e⟩
            · rw [← h2]; exact hP.wlt hn2 h1
            · omega
          refine lv_iload hX_ hB_ dX0_split_84 (lv_at hl 5 rfl) ?_
          refine lv_iconst (v := nI 2) hX_ hB_ dX0_split_86 (by decide) ?_
          refine sd_icmp_ge (tgt := 135) hX_ hB_ dX0_split_87 (by decide) (by omega) (by omega) (fun c3 => ?_) (fun c3 => ?_)
          · skip
            refine lv_aload_n hX_ hB_ dX0_split_135 rfl (lv_at hl 0 rfl) ?_
            refine lv_iload_n hX_ hB_ dX0_split_136 rfl (lv_at hl 1 rfl) ?_
            refine lv_iload hX_ hB_ dX0_split_137 (lv_at hl 2 rfl) ?_
            refine lv_iload hX_ hB_ dX0_split_139 (lv_at hl 3 rfl) ?_
            have hy2 : y = 2 := by omega
            subst hy2
            have told : ∀ x, sd_in T (2 * old + x) → x < 2 → sd_in S (2 * old + x) := by
              intro x hin hx
              rcases (ti _).mp hin with q | ⟨x2, h1, -, e⟩
              · exact q
              · exact absurd (by omega : z = old) zne
            have hpre : ∀ x, x < 2 → sd_in T (2 * old + x) → ¬ sd_in T (2 * i1 + x) ∧ ¬ sd_in T (2 * o1 + x) := by
              intro x hx hin
              have hs := told x hin hx
              have key : ∀ w, ¬ sd_in S (2 * w + x) → ¬ sd_in T (2 * w + x) := by
                intro w hw hin2
                rcases (ti _).mp hin2 with q | ⟨x2, h1, h2, e⟩
                · exact hw q
                · have : x = x2 := by omega
                  subst this
                  exact h2 hs
              exact ⟨key i1 (hni x hx).1, key o1 (hni x hx).2⟩
            refine sd_callVv (y := yX0_splitWaiting) (by_ := cX0_splitWaiting) E hW hA [.int (nI old), .int (nI i1), .int (nI o1)] rfl rfl (m_splitWaiting l D d h T (o1 := old) (o2 := i1) (o3 := o1) (by omega) (by omega) (by omega) (by omega) tlt tn nio hpre _) (cwV 3 hts (lw_V q132 q134 qs7 q14 q135) rfl rfl rfl (by decide +kernel) ⟨Nat.le_of_ble_eq_true rfl, Nat.le_of_ble_eq_true rfl⟩) rfl (fun _ => rfl) hl.1 rfl (Nat.le_of_ble_eq_true rfl) dX0_split_141 ⟨Nat.zero_le _, Nat.zero_le _⟩ (fun u H locs hw hW => ?_)
            obtain ⟨uc, uj, un, ui⟩ := hw
            have u10 : u 0 10 = S 0 10 + 1 := by rw [uj 10 (by decide), fj 10 (by decide)]; exact v10
            have u4 : ∀ j, u 4 j = if j = S 0 10 then o1 else if j = k then i1 else S 4 j := by
              intro j
              rw [uc 4 (by decide) (by decide), fc 4 (by decide) (by decide)]
              exact v4 j
            have uk : u 4 k = S 4 k &&& f := by rw [u4, if_neg (by omega), if_pos rfl, ei, eo]
            have uo : u 4 (S 0 10) = sd_no (S 4 k) f := by rw [u4, if_pos rfl, eu, eo]
            have uoth : ∀ j, j < S 0 10 → j ≠ k → u 4 j = S 4 j := fun j hj hne => by rw [u4, if_neg (by omega), if_neg hne]
            have hHP : sd_HP n g F u (fun p q x => x = a ∧ f.testBit p ≠ f.testBit q) := by
              refine hP.split hk hfe (by rw [← eo, ← ei]; exact c1) (by rw [← eo, ← eu]; exact c2) u10 uk uo uoth ?_ ?_ ?_ ?_ un
              · intro v hv hne
                rw [← eo] at hne
                exact (ui v).mpr (Or.inl ⟨(ti v).mpr (Or.inl hv), hne⟩)
              · intro x hx hin
                rw [← eo] at hin
                rw [← eo, ← ei, ← eu]
                have hT := (ti _).mpr (Or.inl hin)
                exact ⟨(ui _).mpr (Or.inr ⟨x, hx, hT, Or.inl rfl⟩), (ui _).mpr (Or.inr ⟨x, hx, hT, Or.inr rfl⟩)⟩
              · intro x hx hin
                rw [← eo] at hin
                rw [← eo, ← ei, ← eu]
                have hT : sd_in T (2 * z + x) := (ti _).mpr (Or.inr ⟨x, hx, hin, rfl⟩)
                have hU : sd_in u (2 * z + x) := (ui _).mpr (Or.inl ⟨hT, by rw [show (2 * z + x) / 2 = z by omega]; exact zne⟩)
                rcases hz with q | q
                · left; rw [← q]; exact hU
                · right; rw [← q]; exact hU
              · intro v hv
                rw [← eo, ← ei, ← eu]
                rcases (ui v).mp hv with ⟨h1, h2⟩ | ⟨x, hx, -, e⟩
                · rcases (ti v).mp h1 with q | ⟨x, hx, -, e⟩
                  · exact Or.inl ⟨q, h2⟩
                  · right
                    refine ⟨x, by omega, ?_⟩
                    rcases hz with q | q
                    · left; rw [← q]; exact e
                    · right; rw [← q]; exact e
                · exact Or.inr ⟨x, hx, e⟩
            refine sd_vret E hr hlk u hW ⟨fun c h0 h4 h5 => ?_, fun j h0 h1 => ?_, hHP, by omega, uoth, fun p q hp hq => ?_, fun j h1 h2 p q hp hq => ?_, fun z => by omega⟩ dX0_split_144
            · rw [uc c h0 h5, fc c h0 h5]; exact vc c h0 h4
            · rw [uj j h1, fj j h1]; exact vj j h0
            · rw [uk, Nat.testBit_and, Bool.and_eq_true] at hp hq
              rw [hp.2, hq.2]
            · have ej : j = S 0 10 := by omega
              rw [ej, uo, sd_no_bit, Bool.and_eq_true] at hp hq
              have w1 := hp.2
              have w2 := hq.2
              simp at w1 w2
              rw [w1, w2]
          · skip
            refine lv_aload_n hX_ hB_ dX0_split_90 rfl (lv_at hl 0 rfl) ?_
            refine lv_iload_n hX_ hB_ dX0_split_91 rfl (lv_at hl 1 rfl) ?_
            refine lv_iload hX_ hB_ dX0_split_92 (lv_at hl 5 rfl) ?_
            refine sd_callVi (y := yX0_isWaiting) (by_ := cX0_isWaiting) E hW hA [.int (nI old), .int (nI y)] rfl rfl (m_isWaiting l D d h T (o := old) (a := y) (by omega) (by omega) (by omega) tlt _) (cwV 2 hts (lw_V q128 q130 qs6 q14 q131) rfl rfl rfl (by decide +kernel) ⟨Nat.le_of_ble_eq_true rfl, Nat.le_of_ble_eq_true rfl⟩) rfl (fun _ => rfl) hl.1 rfl (Nat.le_of_ble_eq_true rfl) dX0_split_94 ⟨Nat.zero_le _, Nat.zero_le _⟩ (fun r x_ H locs hw hW => ?_)
            have hold2 : sd_in T (2 * old + y) ↔ sd_in S (2 * old + y) := by
              rw [ti]
              refine ⟨fun q => ?_, Or.inl⟩
              rcases q with q | ⟨x2, h1, -, e⟩
              · exact q
              · omega
            rcases hw with ⟨rfl, hin⟩ | ⟨rfl, hin⟩
            · skip
              refine sd_if_eq (tgt := 103) hX_ hB_ dX0_split_97 (by decide) (by omega) (fun c4 => ?_) (fun c4 => ?_)
              · skip
                omega
              · skip
                refine lv_goto (tgt := 129) hX_ hB_ dX0_split_100 (by decide) ?_
                refine sd_iinc (lv' := [(7, .int (nI (y + 1))), (0, .ref (h 0)), (3, .int (nI old)), (4, .int (nI i1)), (5, .int (nI o1)), (6, .int (nI z))]) hX_ hB_ dX0_split_129 hl (k := 5) rfl (by decide) rfl (fun ls hl => ?_)
                refine lv_goto (tgt := 84) hX_ hB_ dX0_split_132 (by decide) ?_
                exact ih _ (y + 1) T H locs ls (by omega) ⟨rfl, by omega, fc, fj, by omega, tn, (fun v => by
                  rw [ti]
                  constructor
                  · rintro (q | ⟨x, h1, h2, e⟩)
                    · exact Or.inl q
                    · exact Or.inr ⟨x, by omega, h2, e⟩
                  · rintro (q | ⟨x, h1, h2, e⟩)
                    · exact Or.inl q
                    · rcases (show x < y ∨ x = y by omega) with w | w
                      · exact Or.inr ⟨x, w, h2, e⟩
                      · subst w; exact absurd (hold2.mp hin) h2), hW, lv_sub hl [1, 2, 3, 4, 5, 0] rfl⟩
            · skip
              refine sd_if_eq (tgt := 103) hX_ hB_ dX0_split_97 (by decide) (by omega) (fun c4 => ?_) (fun c4 => ?_)
              · skip
                refine lv_aload_n hX_ hB_ dX0_split_103 rfl (lv_at hl 0 rfl) ?_
                refine sd_getX E hW 9 (v := .ref (h 5)) (by decide) rfl q36 dX0_split_104 ?_
                refine lv_aload_n hX_ hB_ dX0_split_107 rfl (lv_at hl 0 rfl) ?_
                refine sd_getX E hW 11 (v := .int (nI (T 0 11))) (by decide) rfl q38 dX0_split_108 ?_
                refine lv_iload hX_ hB_ dX0_split_111 (lv_at hl 4 rfl) ?_
                refine lv_iconst (v := nI 1) hX_ hB_ dX0_split_113 (by decide) ?_
                refine sd_ishl2 hX_ hB_ dX0_split_114 ?_
                refine lv_iload hX_ hB_ dX0_split_115 (lv_at hl 5 rfl) ?_
                refine sd_ior hX_ hB_ dX0_split_117 ?_
                rw [sd_orx z (by omega)]
                refine sd_astX E hW 5 (by decide) (show T 0 11 < 512 by omega) dX0_split_118 (fun H locs hW => ?_)
                refine lv_aload_n hX_ hB_ dX0_split_119 rfl (lv_at hl 0 rfl) ?_
                refine lv_dup hX_ hB_ dX0_split_120 rfl ?_
                refine sd_getX E hW 11 (v := .int (nI (T 0 11))) (by decide) rfl q38 dX0_split_121 ?_
                refine lv_iconst (v := nI 1) hX_ hB_ dX0_split_124 (by decide) ?_
                refine sd_iadd hX_ hB_ dX0_split_125 ?_
                refine sd_putX E hW 11 (by decide) rfl rfl q38 dX0_split_126 (fun H locs hW => ?_)
                refine sd_iinc (lv' := [(7, .int (nI (y + 1))), (0, .ref (h 0)), (3, .int (nI old)), (4, .int (nI i1)), (5, .int (nI o1)), (6, .int (nI z))]) hX_ hB_ dX0_split_129 hl (k := 5) rfl (by decide) rfl (fun ls hl => ?_)
                refine lv_goto (tgt := 84) hX_ hB_ dX0_split_132 (by decide) ?_
                obtain ⟨q, hq2⟩ : ∃ q, q = T 0 11 := ⟨_, rfl⟩
                obtain ⟨U, hU⟩ : ∃ U, U = (sd_up (sd_up T 5 (T 0 11) (2 * z + y)) 0 11 ((T 0 11) + 1)) := ⟨_, rfl⟩
                rw [← hU] at hW
                have u11 : U 0 11 = T 0 11 + 1 := by rw [hU]; rfl
                have u5 : ∀ i, U 5 i = if i = T 0 11 then 2 * z + y else T 5 i := fun i => by rw [hU]; rfl
                have hnew : ¬ sd_in T (2 * z + y) := by
                  intro w
                  rcases (ti _).mp w with q | ⟨x2, h1, -, e⟩
                  · rcases hz with hz | hz
                    · rw [hz] at q; exact (hni y (by omega)).1 q
                    · rw [hz] at q; exact (hni y (by omega)).2 q
                  · omega
                have uin : ∀ v, sd_in U v ↔ sd_in T v ∨ v = 2 * z + y := by
                  intro v
                  constructor
                  · rintro ⟨i, hi, e⟩
                    rw [u5] at e
                    by_cases w : i = T 0 11
                    · rw [if_pos w] at e; exact Or.inr e.symm
                    · rw [if_neg w] at e; exact Or.inl ⟨i, by omega, e⟩
                  · rintro (⟨i, hi, e⟩ | e)
                    · exact ⟨i, by omega, by rw [u5, if_neg (by omega)]; exact e⟩
                    · exact ⟨T 0 11, by omega, by rw [u5, if_pos rfl]; exact e.symm⟩
                have und : sd_nd U := by
                  intro i j hi hj e
                  rw [u5, u5] at e
                  by_cases w : i = T 0 11
                  · rw [if_pos w] at e
                    by_cases w2 : j = T 0 11
                    · omega
                    · rw [if_neg w2] at e
                      exact absurd ⟨j, by omega, e.symm⟩ hnew
                  · rw [if_neg w] at e
                    by_cases w2 : j = T 0 11
                    · rw [if_pos w2] at e
                      exact absurd ⟨i, by omega, e⟩ hnew
                    · rw [if_neg w2] at e
                      exact tn i j (by omega) (by omega) e
                exact ih _ (y + 1) U H locs ls (by omega) ⟨rfl, by omega, (fun c h0 h5 => by rw [hU, sd_up_c _ _ _ h0, sd_up_c _ _ _ h5]; exact fc c h0 h5), (fun j hj => by rw [hU, sd_up_j _ _ hj, sd_up_c _ _ _ (by decide)]; exact fj j hj), by omega, und, (fun v => by
                  rw [uin, ti]
                  constructor
                  · rintro ((q | ⟨x, h1, h2, e⟩) | e)
                    · exact Or.inl q
                    · exact Or.inr ⟨x, by omega, h2, e⟩
                    · exact Or.inr ⟨y, by omega, fun w => hin (hold2.mpr w), e⟩
                  · rintro (q | ⟨x, h1, h2, e⟩)
                    · exact Or.inl (Or.inl q)
                    · rcases (show x < y ∨ x = y by omega) with w | w
                      · exact Or.inl (Or.inr ⟨x, w, h2, e⟩)
                      · subst w; exact Or.inr e), hW, lv_sub hl [1, 2, 3, 4, 5, 0] rfl⟩
              · skip
                omega
      · skip
        refine sd_icmp_gt (tgt := 77) hX_ hB_ dX0_split_69 (by decide) (by omega) (by omega) (fun c5 => ?_) (fun c5 => ?_)
        · skip
          refine lv_iload hX_ hB_ dX0_split_77 (lv_at hl 0 rfl) ?_
          exact J o1 (Or.inr rfl)
        · skip
          refine lv_iload hX_ hB_ dX0_split_72 (lv_at hl 1 rfl) ?_
          refine lv_goto (tgt := 79) hX_ hB_ dX0_split_74 (by decide) ?_
          exact J i1 (Or.inl rfl)
    · skip
      have hun : sd_un S f k := by
        intro p q hp hq
        rw [← eo] at hp hq
        have z1 := bo p
        have z2 := bo q
        rw [c2, Nat.zero_testBit, hp] at z1
        rw [c2, Nat.zero_testBit, hq] at z2
        simp at z1 z2
        rw [z1, z2]
      exact sd_vret E hr hlk S hW ⟨fun _ _ _ _ => rfl, fun _ _ _ => rfl, hP, Nat.le_refl _, fun _ _ _ => rfl, hun, fun j h1 h2 => by omega, fun _ => rfl⟩ dX0_split_29
end
section
section
variable {n : Nat} {g : Nat → Nat} {F : Nat → Bool} {S T : Nat → Nat → Nat}
/-- nothing waits: a letter leads from one set into one set -/
theorem sd_HP.stable (h : sd_HP n g F S (fun _ _ _ => False)) (h0 : S 0 11 = 0) {k k1 k2 p q x : Nat} (hk : k < S 0 10) (hk1 : k1 < S 0 10) (hk2 : k2 < S 0 10) (hx : x < 2) (hp : (S 4 k).testBit p = true) (hq : (S 4 k).testBit q = true) (h1 : (S 4 k1).testBit (g (2 * p + x)) = true) (h2 : (S 4 k2).testBit (g (2 * q + x)) = true) : k1 = k2 := by
  apply Classical.byContradiction
  intro hne
  rcases h.2.2.2.2.2.2.2 k k1 k2 p q x hk hk1 hk2 hx hp hq h1 h2 hne with ⟨i, hi, -⟩ | ⟨i, hi, -⟩ | z
  · omega
  · omega
  · exact z
/-- the least machine out of the sets -/
theorem sd_quo_of (hB : sd_XB n g F S) (h : sd_HP n g F S (fun _ _ _ => False)) (h0 : S 0 11 = 0) (t6 : T 0 6 = S 0 10) (hkd : ∀ p, p < n → T 2 p < S 0 10 ∧ (S 4 (T 2 p)).testBit p = true) (t7 : T 0 7 < 2 ^ S 0 10) (tb : ∀ j, j < S 0 10 → ((T 0 7).testBit j = true ↔ S 4 j &&& S 0 1 ≠ 0)) (t3 : ∀ p x, p < n → x < 2 → T 3 (2 * T 2 p + x) = T 2 (g (2 * p + x))) : sd_quo n g F T := by
  obtain ⟨⟨hn1, hn2, hg⟩, e0, e1, e2, e3⟩ := id hB
  have hm := h.sets
  have hst := fun {k k1 k2 p q x : Nat} => h.stable h0 (k := k) (k1 := k1) (k2 := k2) (p := p) (q := q) (x := x)
  obtain ⟨b2, b3, b4, b5, b6, -⟩ := h
  have hF : ∀ p, p < n → (T 0 7).testBit (T 2 p) = F p := by
    intro p hp
    obtain ⟨hk, hb⟩ := hkd p hp
    have hep := e3 p (by omega)
    cases hFp : F p with
    | true =>
      refine (tb _ hk).mpr (fun z => ?_)
      have z1 : (S 4 (T 2 p) &&& S 0 1).testBit p = true := by rw [Nat.testBit_and, hb, hep, hFp]; rfl
      rw [z, Nat.zero_testBit] at z1
      cases z1
    | false =>
      cases hle : (T 0 7).testBit (T 2 p) with
      | false => rfl
      | true =>
        obtain ⟨q, hq⟩ := sd_ex_bit ((tb _ hk).mp hle)
        rw [Nat.testBit_and, Bool.and_eq_true] at hq
        have hqn := sd_bit_lt (b2 _ hk).1 hq.1
        rw [e3 q (by omega)] at hq
        have := b6 _ p q hk hb hq.1
        rw [hFp, hq.2] at this
        cases this
  refine ⟨by omega, fun p hp => by rw [t6]; exact (hkd p hp).1, fun k hk => ?_, t3, Nat.lt_of_lt_of_le t7 (Nat.pow_le_pow_right (by decide) (by omega)), hF, fun p q hp hq => ⟨fun e => ?_, fun e => ?_⟩⟩
  · rw [t6] at hk
    obtain ⟨p, hp⟩ := sd_ex_bit (b2 k hk).2
    have hpn := sd_bit_lt (b2 k hk).1 hp
    exact ⟨p, hpn, b4 _ _ p (hkd p hpn).1 hk (hkd p hpn).2 hp⟩
  · refine dm_bisim (fun p q => p < n ∧ q < n ∧ T 2 p = T 2 q) ?_ ?_ ⟨hp, hq, e⟩
    · rintro p q ⟨hp, hq, e⟩
      rw [← hF p hp, ← hF q hq, e]
    · rintro p q x ⟨hp, hq, e⟩ hx
      have g1 := hg (2 * p + x) (by omega)
      have g2 := hg (2 * q + x) (by omega)
      refine ⟨g1, g2, ?_⟩
      have hb2 := (hkd q hq).2
      rw [← e] at hb2
      exact hst (hkd p hp).1 (hkd _ g1).1 (hkd _ g2).1 hx (hkd p hp).2 hb2 (hkd _ g1).2 (hkd _ g2).2
  · exact b4 _ _ q (hkd p hp).1 (hkd q hq).1 (b5 _ p q (hkd p hp).1 hp hq e (hkd p hp).2) (hkd q hq).2
end

set_option maxHeartbeats 4000000 in
set_option maxRecDepth 100000 in
/-- the least machine -/
theorem m_take (l : Launch) (D : va_G) (d : Nat → ClassId) (h : Nat → Nat) (S : Nat → Nat → Nat) {n : Nat} {g : Nat → Nat} {F : Nat → Bool} (hB : sd_XB n g F S) (hP : sd_HP n g F S (fun _ _ _ => False)) (h11 : S 0 11 = 0) (sz : Nat) : Met l yX0_take (ws_ yX0_take cX0_take 3 none) (sd_rm 0) (va_Pc [.ref (h 0)] (sd_P D d (sd_wX h d S) sz)) (sd_Qv D (fun u : Nat → Nat → Nat => sd_quo n g F u ∧ (∀ c, c ≠ 0 → c ≠ 2 → c ≠ 3 → u c = S c) ∧ ∀ j, j ≠ 6 → j ≠ 7 → u 0 j = S 0 j) (fun u => sd_wX h d u) (va_A (sd_wX h d S) sz)) 0 0 (va_A (sd_wX h d S) sz) := by
  refine sd_ofW (Qc := sd_Qv D (fun u : Nat → Nat → Nat => sd_quo n g F u ∧ (∀ c, c ≠ 0 → c ≠ 2 → c ≠ 3 → u c = S c) ∧ ∀ j, j ≠ 6 → j ≠ 7 → u 0 j = S 0 j) (fun u => sd_wX h d u)) (own := RX0) (by decide) rfl (Nat.le_of_ble_eq_true rfl) ?_
  intro p e s m below meth c ls A E hr hlk hnm hA hW hl
  have hX_ := E.1.1
  have hB_ := E.1.2.1
  have hown := E.1.2.2.2.1
  have hts := E.1.2.2.2.2
  have hl : lv_has ls 3 [(0, .ref (h 0))] := hl
  obtain ⟨⟨hn1, hn2, hg⟩, e0, e1, e2, e3⟩ := id hB
  have hm := hP.sets
  have h2n : 2 ^ n ≤ 2 ^ 16 := Nat.pow_le_pow_right (by decide) hn2
  refine lv_aload_n hX_ hB_ dX0_take_0 rfl (lv_at hl 0 rfl) ?_
  refine lv_aload_n hX_ hB_ dX0_take_1 rfl (lv_at hl 0 rfl) ?_
  refine sd_getX E hW 10 (v := .int (nI (S 0 10))) (by decide) rfl q37 dX0_take_2 ?_
  refine sd_putX E hW 6 (by decide) rfl rfl q33 dX0_take_5 (fun H locs hW => ?_)
  refine lv_aload_n hX_ hB_ dX0_take_8 rfl (lv_at hl 0 rfl) ?_
  refine lv_iconst (v := nI 0) hX_ hB_ dX0_take_9 (by decide) ?_
  refine sd_putX E hW 7 (by decide) rfl rfl q34 dX0_take_10 (fun H locs hW => ?_)
  refine lv_iconst (v := nI 0) hX_ hB_ dX0_take_13 (by decide) ?_
  refine lv_istore_n (lv' := [(1, .int (nI 0)), (0, .ref (h 0))]) hX_ hB_ dX0_take_14 rfl hl (by decide) rfl (fun ls hl => ?_)
  refine sd_loop2 (fun nn (k : Nat) (T : Nat → Nat → Nat) H locs ls => nn = 16 - k ∧ (k ≤ S 0 10) ∧ (∀ c, c ≠ 0 → c ≠ 2 → T c = S c) ∧ (∀ j, j ≠ 6 → j ≠ 7 → T 0 j = S 0 j) ∧ (T 0 6 = S 0 10) ∧ (∀ j p, j < k → p < n → (S 4 j).testBit p = true → T 2 p = j) ∧ (T 0 7 < 2 ^ k) ∧ (∀ j, j < k → ((T 0 7).testBit j = true ↔ S 4 j &&& S 0 1 ≠ 0)) ∧ sd_W D A s.heap (sd_wX h d T) H locs ∧ lv_has ls 3 [(0, .ref (h 0)), (1, .int (nI k))]) (fun nn k T H locs ls hI ih1 => ?_) _ 0 ((sd_up (sd_up S 0 6 (S 0 10)) 0 7 0)) _ _ _ ⟨rfl, Nat.zero_le _, (fun c h0 h2 => by rw [sd_up_c _ _ _ h0, sd_up_c _ _ _ h0]), (fun j h6 h7 => by rw [sd_up_j _ _ h7, sd_up_j _ _ h6]), rfl, (fun j p hj => absurd hj (Nat.not_lt_zero j)), (by show 0 < 2 ^ 0; decide), (fun j hj => absurd hj (Nat.not_lt_zero j)), hW, lv_sub hl [1, 0] rfl⟩
  · skip
    obtain ⟨rfl, hk, fc, fj, t6, tk, t7, tb, hW, hl⟩ := hI
    have t10 : T 0 10 = S 0 10 := fj 10 (by decide) (by decide)
    have t00 : T 0 0 = n := by rw [fj 0 (by decide) (by decide)]; exact e0
    have t01 : T 0 1 = S 0 1 := fj 1 (by decide) (by decide)
    have t4 : T 4 = S 4 := fc 4 (by decide) (by decide)
    have t1 : T 1 = S 1 := fc 1 (by decide) (by decide)
    refine lv_iload_n hX_ hB_ dX0_take_15 rfl (lv_at hl 1 rfl) ?_
    refine lv_aload_n hX_ hB_ dX0_take_16 rfl (lv_at hl 0 rfl) ?_
    refine sd_getX E hW 10 (v := .int (nI (T 0 10))) (by decide) rfl q37 dX0_take_17 ?_
    refine sd_icmp_ge (tgt := 92) hX_ hB_ dX0_take_20 (by decide) (by omega) (by omega) (fun c1 => ?_) (fun c1 => ?_)
    · skip
      have ek : k = S 0 10 := by omega
      subst ek
      have hkd : ∀ p, p < n → T 2 p < S 0 10 ∧ (S 4 (T 2 p)).testBit p = true := by
        intro p hp
        obtain ⟨j, hj, hb⟩ := hP.2.1 p hp
        rw [tk j p hj hp hb]
        exact ⟨hj, hb⟩
      refine lv_iconst (v := nI 0) hX_ hB_ dX0_take_92 (by decide) ?_
      refine lv_istore_n (lv' := [(1, .int (nI 0)), (0, .ref (h 0))]) hX_ hB_ dX0_take_93 rfl hl (by decide) rfl (fun ls hl => ?_)
      refine sd_loop2 (fun nn (i : Nat) (U : Nat → Nat → Nat) H locs ls => nn = 16 - i ∧ (i ≤ n) ∧ (∀ c, c ≠ 3 → U c = T c) ∧ (∀ p x, p < i → x < 2 → U 3 (2 * T 2 p + x) = T 2 (g (2 * p + x))) ∧ sd_W D A s.heap (sd_wX h d U) H locs ∧ lv_has ls 3 [(0, .ref (h 0)), (1, .int (nI i))]) (fun nn i U H locs ls hI ih3 => ?_) _ 0 T _ _ _ ⟨rfl, Nat.zero_le _, (fun _ _ => rfl), (fun p x hp => absurd hp (Nat.not_lt_zero p)), hW, lv_sub hl [1, 0] rfl⟩
      · skip
        obtain ⟨rfl, hs, uc, u3, hW, hl⟩ := hI
        have u0 : U 0 = T 0 := uc 0 (by decide)
        have u00 : U 0 0 = n := by rw [u0]; exact t00
        have u1 : ∀ j, j < 32 → U 1 j = g j := by rw [uc 1 (by decide), t1]; exact e1
        have u2 : U 2 = T 2 := uc 2 (by decide)
        refine lv_iload_n hX_ hB_ dX0_take_94 rfl (lv_at hl 1 rfl) ?_
        refine lv_aload_n hX_ hB_ dX0_take_95 rfl (lv_at hl 0 rfl) ?_
        refine sd_getX E hW 0 (v := .int (nI (U 0 0))) (by decide) rfl q27 dX0_take_96 ?_
        refine sd_icmp_ge (tgt := 151) hX_ hB_ dX0_take_99 (by decide) (by omega) (by omega) (fun c5 => ?_) (fun c5 => ?_)
        · skip
          refine sd_vret E hr hlk U hW ⟨?_, fun c h0 h2 h3 => ?_, fun j h6 h7 => ?_⟩ dX0_take_151
          · refine sd_quo_of hB hP h11 (by rw [u0]; exact t6) (by rw [u2]; exact hkd) (by rw [u0]; exact t7) (by rw [u0]; exact tb) (fun p x hp hx => ?_)
            rw [u2]
            exact u3 p x (by omega) hx
          · rw [uc c h3]; exact fc c h0 h2
          · rw [u0]; exact fj j h6 h7
        · skip
          refine lv_iconst (v := nI 0) hX_ hB_ dX0_take_102 (by decide) ?_
          refine lv_istore_n (lv' := [(2, .int (nI 0)), (0, .ref (h 0)), (1, .int (nI i))]) hX_ hB_ dX0_take_103 rfl hl (by decide) rfl (fun ls hl => ?_)
          refine sd_loop2 (fun nn (x : Nat) (U : Nat → Nat → Nat) H locs ls => nn = 2 - x ∧ (x ≤ 2) ∧ (∀ c, c ≠ 3 → U c = T c) ∧ (∀ p x, p < i → x < 2 → U 3 (2 * T 2 p + x) = T 2 (g (2 * p + x))) ∧ (∀ y, y < x → U 3 (2 * T 2 i + y) = T 2 (g (2 * i + y))) ∧ sd_W D A s.heap (sd_wX h d U) H locs ∧ lv_has ls 3 [(0, .ref (h 0)), (1, .int (nI i)), (2, .int (nI x))]) (fun nn x U H locs ls hI ih4 => ?_) _ 0 U _ _ _ ⟨rfl, Nat.zero_le _, uc, u3, (fun y hy => absurd hy (Nat.not_lt_zero y)), hW, lv_sub hl [1, 2, 0] rfl⟩
          · skip
            obtain ⟨rfl, hx, uc, u3, u4, hW, hl⟩ := hI
            have u0 : U 0 = T 0 := uc 0 (by decide)
            have u00 : U 0 0 = n := by rw [u0]; exact t00
            have u1 : ∀ j, j < 32 → U 1 j = g j := by rw [uc 1 (by decide), t1]; exact e1
            have u2 : U 2 = T 2 := uc 2 (by decide)
            refine lv_iload_n hX_ hB_ dX0_take_104 rfl (lv_at hl 2 rfl) ?_
            refine lv_iconst (v := nI 2) hX_ hB_ dX0_take_105 (by decide) ?_
            refine sd_icmp_ge (tgt := 145) hX_ hB_ dX0_take_106 (by decide) (by omega) (by omega) (fun c6 => ?_) (fun c6 => ?_)
            · skip
              refine sd_iinc (lv' := [(1, .int (nI (i + 1))), (0, .ref (h 0)), (2, .int (nI x))]) hX_ hB_ dX0_take_145 hl (k := 1) rfl (by decide) rfl (fun ls hl => ?_)
              refine lv_goto (tgt := 94) hX_ hB_ dX0_take_148 (by decide) ?_
              exact ih3 _ (i + 1) U H locs ls (by omega) ⟨rfl, by omega, uc, (fun p y hp hy => by rcases (show p < i ∨ p = i by omega) with w | w; exact u3 p y w hy; (rw [w]; exact u4 y (by omega))), hW, lv_sub hl [1, 0] rfl⟩
            · skip
              have g1 := hg (2 * i + x) (by omega)
              obtain ⟨d1, d2⟩ := hkd i (by omega)
              obtain ⟨d3, d4⟩ := hkd _ g1
              have hki : U 2 i = T 2 i := by rw [u2]
              refine lv_aload_n hX_ hB_ dX0_take_109 rfl (lv_at hl 0 rfl) ?_
              refine sd_getX E hW 5 (v := .ref (h 3)) (by decide) rfl q32 dX0_take_110 ?_
              refine lv_iconst (v := nI 2) hX_ hB_ dX0_take_113 (by decide) ?_
              refine lv_aload_n hX_ hB_ dX0_take_114 rfl (lv_at hl 0 rfl) ?_
              refine sd_getX E hW 4 (v := .ref (h 2)) (by decide) rfl q31 dX0_take_115 ?_
              refine lv_iload_n hX_ hB_ dX0_take_118 rfl (lv_at hl 1 rfl) ?_
              refine sd_ald (f := U 2) E hW 2 rfl (by omega) (by decide) dX0_take_119 ?_
              rw [hki]
              refine sd_imul hX_ hB_ dX0_take_120 ?_
              refine lv_iload_n hX_ hB_ dX0_take_121 rfl (lv_at hl 2 rfl) ?_
              refine sd_iadd hX_ hB_ dX0_take_122 ?_
              refine lv_aload_n hX_ hB_ dX0_take_123 rfl (lv_at hl 0 rfl) ?_
              refine sd_getX E hW 4 (v := .ref (h 2)) (by decide) rfl q31 dX0_take_124 ?_
              refine lv_aload_n hX_ hB_ dX0_take_127 rfl (lv_at hl 0 rfl) ?_
              refine sd_getX E hW 2 (v := .ref (h 1)) (by decide) rfl q29 dX0_take_128 ?_
              refine lv_iconst (v := nI 2) hX_ hB_ dX0_take_131 (by decide) ?_
              refine lv_iload_n hX_ hB_ dX0_take_132 rfl (lv_at hl 1 rfl) ?_
              refine sd_imul hX_ hB_ dX0_take_133 ?_
              refine lv_iload_n hX_ hB_ dX0_take_134 rfl (lv_at hl 2 rfl) ?_
              refine sd_iadd hX_ hB_ dX0_take_135 ?_
              refine sd_ald (f := U 1) E hW 1 rfl (by omega) (by decide) dX0_take_136 ?_
              rw [u1 _ (by omega)]
              refine sd_ald (f := U 2) E hW 2 rfl (by omega) (by decide) dX0_take_137 ?_
              rw [u2]
              refine sd_astX E hW 3 (by decide) (show 2 * T 2 i + x < 32 by omega) dX0_take_138 (fun H locs hW => ?_)
              refine sd_iinc (lv' := [(2, .int (nI (x + 1))), (0, .ref (h 0)), (1, .int (nI i))]) hX_ hB_ dX0_take_139 hl (k := 2) rfl (by decide) rfl (fun ls hl => ?_)
              refine lv_goto (tgt := 104) hX_ hB_ dX0_take_142 (by decide) ?_
              have hsame : ∀ p y, p < n → y < 2 → 2 * T 2 p + y = 2 * T 2 i + x → T 2 (g (2 * i + x)) = T 2 (g (2 * p + y)) := by
                intro p y hp hy e
                have e1 : T 2 p = T 2 i := by omega
                have e2 : y = x := by omega
                subst e2
                have g2 := hg (2 * p + y) (by omega)
                have hb := (hkd p hp).2
                rw [e1] at hb
                exact hP.stable h11 d1 d3 (hkd _ g2).1 hy d2 hb d4 (hkd _ g2).2
              exact ih4 _ (x + 1) ((sd_up U 3 ((2 * (T 2 i)) + x) (T 2 (g (2 * i + x))))) H locs ls (by omega) ⟨rfl, by omega, (fun c hc => by rw [sd_up_c _ _ _ hc]; exact uc c hc), (fun p y hp hy => by rw [sd_up_at]; split; (next e => exact hsame p y (by omega) hy e); exact u3 p y hp hy), (fun y hy => by rw [sd_up_at]; split; (next e => exact hsame i y (by omega) (by omega) e); exact u4 y (by omega)), hW, lv_sub hl [1, 2, 0] rfl⟩
    · skip
      refine lv_iconst (v := nI 0) hX_ hB_ dX0_take_23 (by decide) ?_
      refine lv_istore_n (lv' := [(2, .int (nI 0)), (0, .ref (h 0)), (1, .int (nI k))]) hX_ hB_ dX0_take_24 rfl hl (by decide) rfl (fun ls hl => ?_)
      refine sd_loop2 (fun nn (i : Nat) (T : Nat → Nat → Nat) H locs ls => nn = 16 - i ∧ (i ≤ n) ∧ (∀ c, c ≠ 0 → c ≠ 2 → T c = S c) ∧ (∀ j, j ≠ 6 → j ≠ 7 → T 0 j = S 0 j) ∧ (T 0 6 = S 0 10) ∧ (∀ j p, j < k → p < n → (S 4 j).testBit p = true → T 2 p = j) ∧ (T 0 7 < 2 ^ k) ∧ (∀ j, j < k → ((T 0 7).testBit j = true ↔ S 4 j &&& S 0 1 ≠ 0)) ∧ (∀ p, p < i → (S 4 k).testBit p = true → T 2 p = k) ∧ sd_W D A s.heap (sd_wX h d T) H locs ∧ lv_has ls 3 [(0, .ref (h 0)), (1, .int (nI k)), (2, .int (nI i))]) (fun nn i T H locs ls hI ih2 => ?_) _ 0 T _ _ _ ⟨rfl, Nat.zero_le _, fc, fj, t6, tk, t7, tb, (fun p hp => absurd hp (Nat.not_lt_zero p)), hW, lv_sub hl [1, 2, 0] rfl⟩
      · skip
        obtain ⟨rfl, hi, fc, fj, t6, tk, t7, tb, ti, hW, hl⟩ := hI
        have t10 : T 0 10 = S 0 10 := fj 10 (by decide) (by decide)
        have t00 : T 0 0 = n := by rw [fj 0 (by decide) (by decide)]; exact e0
        have t01 : T 0 1 = S 0 1 := fj 1 (by decide) (by decide)
        have t4 : T 4 = S 4 := fc 4 (by decide) (by decide)
        have t1 : T 1 = S 1 := fc 1 (by decide) (by decide)
        have hbk := hP.1 k (by omega)
        refine lv_iload_n hX_ hB_ dX0_take_25 rfl (lv_at hl 2 rfl) ?_
        refine lv_aload_n hX_ hB_ dX0_take_26 rfl (lv_at hl 0 rfl) ?_
        refine sd_getX E hW 0 (v := .int (nI (T 0 0))) (by decide) rfl q27 dX0_take_27 ?_
        refine sd_icmp_ge (tgt := 60) hX_ hB_ dX0_take_30 (by decide) (by omega) (by omega) (fun c2 => ?_) (fun c2 => ?_)
        · skip
          refine lv_aload_n hX_ hB_ dX0_take_60 rfl (lv_at hl 0 rfl) ?_
          refine sd_getX E hW 8 (v := .ref (h 4)) (by decide) rfl q35 dX0_take_61 ?_
          refine lv_iload_n hX_ hB_ dX0_take_64 rfl (lv_at hl 1 rfl) ?_
          refine sd_ald (f := T 4) E hW 4 rfl (by omega) (by decide) dX0_take_65 ?_
          rw [t4]
          refine lv_aload_n hX_ hB_ dX0_take_66 rfl (lv_at hl 0 rfl) ?_
          refine sd_getX E hW 1 (v := .int (nI (T 0 1))) (by decide) rfl q28 dX0_take_67 ?_
          refine sd_iand hX_ hB_ dX0_take_70 ?_
          rw [t01]
          have hand : S 4 k &&& S 0 1 ≤ S 4 k := Nat.and_le_left
          have tk2 : ∀ j p, j < k + 1 → p < n → (S 4 j).testBit p = true → T 2 p = j := by
            intro j p hj hp hb
            rcases (show j < k ∨ j = k by omega) with w | w
            · exact tk j p w hp hb
            · subst w; exact ti p (by omega) hb
          have hp1 : 2 ^ (k + 1) = 2 ^ k + 2 ^ k := by rw [Nat.pow_succ]; omega
          refine sd_if_eq (tgt := 86) hX_ hB_ dX0_take_71 (by decide) (by omega) (fun c3 => ?_) (fun c3 => ?_)
          · skip
            refine sd_iinc (lv' := [(1, .int (nI (k + 1))), (0, .ref (h 0)), (2, .int (nI i))]) hX_ hB_ dX0_take_86 hl (k := 1) rfl (by decide) rfl (fun ls hl => ?_)
            refine lv_goto (tgt := 15) hX_ hB_ dX0_take_89 (by decide) ?_
            exact ih1 _ (k + 1) T H locs ls (by omega) ⟨rfl, by omega, fc, fj, t6, tk2, by omega, (fun j hj => by
              rcases (show j < k ∨ j = k by omega) with w | w
              · exact tb j w
              · subst w
                rw [Nat.testBit_lt_two_pow t7]
                exact ⟨fun z => (by cases z), fun z => absurd c3 z⟩), hW, lv_sub hl [1, 0] rfl⟩
          · skip
            refine lv_aload_n hX_ hB_ dX0_take_74 rfl (lv_at hl 0 rfl) ?_
            refine lv_dup hX_ hB_ dX0_take_75 rfl ?_
            refine sd_getX E hW 7 (v := .int (nI (T 0 7))) (by decide) rfl q34 dX0_take_76 ?_
            refine lv_iconst (v := nI 1) hX_ hB_ dX0_take_79 (by decide) ?_
            refine lv_iload_n hX_ hB_ dX0_take_80 rfl (lv_at hl 1 rfl) ?_
            refine sd_ishl1 hX_ hB_ dX0_take_81 (by omega) ?_
            refine sd_ior hX_ hB_ dX0_take_82 ?_
            refine sd_putX E hW 7 (by decide) rfl rfl q34 dX0_take_83 (fun H locs hW => ?_)
            refine sd_iinc (lv' := [(1, .int (nI (k + 1))), (0, .ref (h 0)), (2, .int (nI i))]) hX_ hB_ dX0_take_86 hl (k := 1) rfl (by decide) rfl (fun ls hl => ?_)
            refine lv_goto (tgt := 15) hX_ hB_ dX0_take_89 (by decide) ?_
            exact ih1 _ (k + 1) ((sd_up T 0 7 ((T 0 7) ||| (2 ^ k)))) H locs ls (by omega) ⟨rfl, by omega, (fun c h0 h2 => by rw [sd_up_c _ _ _ h0]; exact fc c h0 h2), (fun j h6 h7 => by rw [sd_up_j _ _ h7]; exact fj j h6 h7), t6, tk2, (by show T 0 7 ||| 2 ^ k < 2 ^ (k + 1); exact Nat.or_lt_two_pow (by omega) (by omega)), (fun j hj => by
              show (T 0 7 ||| 2 ^ k).testBit j = true ↔ _
              rw [sd_or_bit]
              rcases (show j < k ∨ j = k by omega) with w | w
              · rw [show decide (k = j) = false by simp; omega, Bool.or_false]; exact tb j w
              · subst w; simp; exact c3), hW, lv_sub hl [1, 0] rfl⟩
        · skip
          refine lv_aload_n hX_ hB_ dX0_take_33 rfl (lv_at hl 0 rfl) ?_
          refine sd_getX E hW 8 (v := .ref (h 4)) (by decide) rfl q35 dX0_take_34 ?_
          refine lv_iload_n hX_ hB_ dX0_take_37 rfl (lv_at hl 1 rfl) ?_
          refine sd_ald (f := T 4) E hW 4 rfl (by omega) (by decide) dX0_take_38 ?_
          rw [t4]
          refine lv_iload_n hX_ hB_ dX0_take_39 rfl (lv_at hl 2 rfl) ?_
          refine sd_ishr hX_ hB_ dX0_take_40 (by omega) (by omega) ?_
          refine lv_iconst (v := nI 1) hX_ hB_ dX0_take_41 (by decide) ?_
          refine sd_iandE (sd_and1 _) hX_ hB_ dX0_take_42 ?_
          refine lv_iconst (v := nI 1) hX_ hB_ dX0_take_43 (by decide) ?_
          refine sd_icmp_ne (tgt := 54) hX_ hB_ dX0_take_44 (by decide) (by omega) (by omega) (fun c4 => ?_) (fun c4 => ?_)
          · skip
            refine sd_iinc (lv' := [(2, .int (nI (i + 1))), (0, .ref (h 0)), (1, .int (nI k))]) hX_ hB_ dX0_take_54 hl (k := 2) rfl (by decide) rfl (fun ls hl => ?_)
            refine lv_goto (tgt := 25) hX_ hB_ dX0_take_57 (by decide) ?_
            exact ih2 _ (i + 1) T H locs ls (by omega) ⟨rfl, by omega, fc, fj, t6, tk, t7, tb, (fun p hp hb => by rcases (show p < i ∨ p = i by omega) with w | w; exact ti p w hb; (subst w; exact absurd (sd_tb1.mpr hb) c4)), hW, lv_sub hl [1, 2, 0] rfl⟩
          · skip
            refine lv_aload_n hX_ hB_ dX0_take_47 rfl (lv_at hl 0 rfl) ?_
            refine sd_getX E hW 4 (v := .ref (h 2)) (by decide) rfl q31 dX0_take_48 ?_
            refine lv_iload_n hX_ hB_ dX0_take_51 rfl (lv_at hl 2 rfl) ?_
            refine lv_iload_n hX_ hB_ dX0_take_52 rfl (lv_at hl 1 rfl) ?_
            refine sd_astX E hW 2 (by decide) (show i < 16 by omega) dX0_take_53 (fun H locs hW => ?_)
            refine sd_iinc (lv' := [(2, .int (nI (i + 1))), (0, .ref (h 0)), (1, .int (nI k))]) hX_ hB_ dX0_take_54 hl (k := 2) rfl (by decide) rfl (fun ls hl => ?_)
            refine lv_goto (tgt := 25) hX_ hB_ dX0_take_57 (by decide) ?_
            exact ih2 _ (i + 1) ((sd_up T 2 i k)) H locs ls (by omega) ⟨rfl, by omega, (fun c h0 h2 => by rw [sd_up_c _ _ _ h2]; exact fc c h0 h2), fj, t6, (fun j p hj hp hb => by
              rw [sd_up_at]
              split
              · next e => subst e; exact hP.2.2.1 k j p (by omega) (by omega) (sd_tb1.mp c4) hb
              · exact tk j p hj hp hb), t7, tb, (fun p hp hb => by rw [sd_up_at]; split; rfl; exact ti p (by omega) hb), hW, lv_sub hl [1, 2, 0] rfl⟩
end
section
section
variable {n : Nat} {g : Nat → Nat} {F : Nat → Bool} {S T : Nat → Nat → Nat} {exc exc2 : Nat → Nat → Nat → Prop}
theorem sd_HP.weak (h : sd_HP n g F S exc) (hw : ∀ k p q x, k < S 0 10 → (S 4 k).testBit p = true → (S 4 k).testBit q = true → exc p q x → exc2 p q x) : sd_HP n g F S exc2 := by
  obtain ⟨b2, b3, b4, b5, b6, w1, w2, hx⟩ := h
  refine ⟨b2, b3, b4, b5, b6, w1, w2, fun k k1 k2 p q x h1 h2 h3 h4 h5 h6 h7 h8 h9 => ?_⟩
  rcases hx k k1 k2 p q x h1 h2 h3 h4 h5 h6 h7 h8 h9 with z | z | z
  · exact Or.inl z
  · exact Or.inr (Or.inl z)
  · exact Or.inr (Or.inr (hw k p q x h1 h5 h6 z))
/-- one that waited is taken -/
theorem sd_HP.pop (h : sd_HP n g F S (fun _ _ _ => False)) (h0 : 0 < S 0 11) {kc a f : Nat} (hkc : kc < S 0 10) (ha : a < 2) (hv : S 5 (S 0 11 - 1) = 2 * S 4 kc + a) (hf : ∀ p, p < n → f.testBit p = (S 4 kc).testBit (g (2 * p + a)))
    (t0 : ∀ j, j ≠ 11 → T 0 j = S 0 j) (t11 : T 0 11 = S 0 11 - 1) (t4 : T 4 = S 4) (t5 : T 5 = S 5) : sd_HP n g F T (fun p q x => x = a ∧ f.testBit p ≠ f.testBit q) := by
  have hd := fun {j k : Nat} (hj : j < S 0 10) (hk : k < S 0 10) (hne : j ≠ k) => h.diff hj hk hne
  obtain ⟨b2, b3, b4, b5, b6, w1, w2, hx⟩ := h
  have e10 := t0 10 (by decide)
  have hin : ∀ v, sd_in T v → sd_in S v := by
    rintro v ⟨i, hi, e⟩
    exact ⟨i, by omega, by rw [← t5]; exact e⟩
  have hup : ∀ v, sd_in S v → sd_in T v ∨ v = 2 * S 4 kc + a := by
    rintro v ⟨i, hi, e⟩
    by_cases z : i = S 0 11 - 1
    · right; rw [← e, z, hv]
    · exact Or.inl ⟨i, by omega, by rw [t5]; exact e⟩
  refine ⟨by rw [e10, t4]; exact b2, by rw [e10, t4]; exact b3, by rw [e10, t4]; exact b4, by rw [e10, t4]; exact b5, by rw [e10, t4]; exact b6, fun v hv => by rw [e10, t4]; exact w1 v (hin v hv), fun i j hi hj e => w2 i j (by omega) (by omega) (by rw [← t5]; exact e), ?_⟩
  rw [e10, t4]
  intro k k1 k2 p q x h1 h2 h3 h4 h5 h6 h7 h8 h9
  have hpn := sd_bit_lt (b2 k h1).1 h5
  have hqn := sd_bit_lt (b2 k h1).1 h6
  have key : ∀ k', k' < S 0 10 → 2 * S 4 k' + x = 2 * S 4 kc + a → x = a ∧ k' = kc := by
    intro k' hk' e
    refine ⟨by omega, Classical.byContradiction fun hne => hd hk' hkc hne (by omega)⟩
  have hnot : ∀ k' r, k' < S 0 10 → k' ≠ kc → (S 4 k').testBit r = true → (S 4 kc).testBit r = false := by
    intro k' r hk' hne hb
    cases e : (S 4 kc).testBit r with
    | false => rfl
    | true => exact absurd (b4 k' kc r hk' hkc hb e) hne
  rcases hx k k1 k2 p q x h1 h2 h3 h4 h5 h6 h7 h8 h9 with z | z | z
  · rcases hup _ z with w | w
    · exact Or.inl w
    · obtain ⟨ex, ek⟩ := key k1 h2 w
      subst ex ek
      right; right
      refine ⟨rfl, ?_⟩
      rw [hf p hpn, hf q hqn, h7, hnot k2 _ h3 (fun e => h9 e.symm) h8]
      decide
  · rcases hup _ z with w | w
    · exact Or.inr (Or.inl w)
    · obtain ⟨ex, ek⟩ := key k2 h3 w
      subst ex ek
      right; right
      refine ⟨rfl, ?_⟩
      rw [hf p hpn, hf q hqn, h8, hnot k1 _ h2 h9 h7]
      decide
  · exact absurd z id
/-- two sets at the start -/
theorem sd_HP.two {a b z : Nat} (hn : n ≤ 16) (ha : a < 2 ^ n) (hb : b < 2 ^ n) (na : a ≠ 0) (nb : b ≠ 0) (ba : ∀ p, p < n → a.testBit p = F p) (bb : ∀ p, p < n → b.testBit p = !F p) (hz : z = a ∨ z = b)
    (t10 : T 0 10 = 2) (t40 : T 4 0 = a) (t41 : T 4 1 = b) (t11 : T 0 11 = 2) (t50 : T 5 0 = 2 * z) (t51 : T 5 1 = 2 * z + 1) : sd_HP n g F T exc := by
  have hin : ∀ x, x < 2 → sd_in T (2 * z + x) := by
    intro x hx
    rcases (show x = 0 ∨ x = 1 by omega) with rfl | rfl
    · exact ⟨0, by omega, t50⟩
    · exact ⟨1, by omega, t51⟩
  have hk : ∀ k, k < T 0 10 → (k = 0 ∧ T 4 k = a) ∨ (k = 1 ∧ T 4 k = b) := by
    intro k hk
    rcases (show k = 0 ∨ k = 1 by omega) with rfl | rfl
    · exact Or.inl ⟨rfl, t40⟩
    · exact Or.inr ⟨rfl, t41⟩
  have hl : ∀ k p, k < T 0 10 → (T 4 k).testBit p = true → p < n ∧ (k = 0 ↔ F p = true) := by
    intro k p hk' hp
    rcases hk k hk' with ⟨e1, e2⟩ | ⟨e1, e2⟩
    · rw [e2] at hp
      have hpn := sd_bit_lt ha hp
      rw [ba p hpn] at hp
      exact ⟨hpn, by simp [e1, hp]⟩
    · rw [e2] at hp
      have hpn := sd_bit_lt hb hp
      rw [bb p hpn] at hp
      refine ⟨hpn, ?_⟩
      subst e1
      revert hp
      cases F p <;> simp
  have hset : ∀ k p, k < T 0 10 → p < n → (k = 0 ↔ F p = true) → (T 4 k).testBit p = true := by
    intro k p hk' hp he
    rcases hk k hk' with ⟨e1, e2⟩ | ⟨e1, e2⟩
    · rw [e2, ba p hp]; exact he.mp e1
    · rw [e2, bb p hp]
      subst e1
      revert he
      cases F p <;> simp
  refine ⟨fun k hk' => ?_, fun p hp => ?_, fun k k' p h1 h2 h3 h4 => ?_, fun k p q h1 hp hq he h3 => ?_, fun k p q h1 h2 h3 => ?_, fun v hv => ?_, fun i j hi hj e => ?_, fun k k1 k2 p q x h1 h2 h3 h4 h5 h6 h7 h8 h9 => ?_⟩
  · rcases hk k hk' with ⟨-, e2⟩ | ⟨-, e2⟩
    · rw [e2]; exact ⟨ha, na⟩
    · rw [e2]; exact ⟨hb, nb⟩
  · cases e : F p with
    | true => exact ⟨0, by omega, hset 0 p (by omega) hp (by simp [e])⟩
    | false => exact ⟨1, by omega, hset 1 p (by omega) hp (by simp [e])⟩
  · have a3 : k = 0 ↔ k' = 0 := (hl k p h1 h3).2.trans (hl k' p h2 h4).2.symm
    omega
  · have h4 := (hl k p h1 h3).2
    rw [dm_eq_F he] at h4
    exact hset k q h1 hq h4
  · have h4 := (hl k p h1 h2).2
    have h5 := (hl k q h1 h3).2
    rw [h4] at h5
    revert h5
    cases F p <;> cases F q <;> simp
  · obtain ⟨i, hi, e⟩ := hv
    have hex : ∃ x, x < 2 ∧ v = 2 * z + x := by
      rcases (show i = 0 ∨ i = 1 by omega) with rfl | rfl
      · exact ⟨0, by omega, by rw [← e, t50]; rfl⟩
      · exact ⟨1, by omega, by rw [← e, t51]⟩
    obtain ⟨x, hx, ev⟩ := hex
    rcases hz with q | q
    · exact ⟨0, x, by omega, hx, by rw [t40, ← q]; exact ev⟩
    · exact ⟨1, x, by omega, hx, by rw [t41, ← q]; exact ev⟩
  · rcases (show i = 0 ∨ i = 1 by omega) with rfl | rfl <;> rcases (show j = 0 ∨ j = 1 by omega) with rfl | rfl <;> omega
  · have hw : ∀ k', k' < T 0 10 → T 4 k' = z → sd_in T (2 * T 4 k' + x) := fun k' _ e => by rw [e]; exact hin x h4
    rcases hk k1 h2 with ⟨e1, e2⟩ | ⟨e1, e2⟩ <;> rcases hk k2 h3 with ⟨f1, f2⟩ | ⟨f1, f2⟩
    · omega
    · rcases hz with q | q
      · exact Or.inl (hw k1 h2 (by rw [e2, q]))
      · exact Or.inr (Or.inl (hw k2 h3 (by rw [f2, q])))
    · rcases hz with q | q
      · exact Or.inr (Or.inl (hw k2 h3 (by rw [f2, q])))
      · exact Or.inl (hw k1 h2 (by rw [e2, q]))
    · omega
/-- one set at the start -/
theorem sd_HP.one {a : Nat} (ha : a < 2 ^ n) (na : a ≠ 0) (ba : ∀ p, p < n → a.testBit p = true) (hF : ∀ p q, p < n → q < n → F p = F q) (t10 : T 0 10 = 1) (t40 : T 4 0 = a) (t11 : T 0 11 = 0) : sd_HP n g F T exc := by
  have hk : ∀ k, k < T 0 10 → k = 0 ∧ T 4 k = a := by
    intro k hk
    have : k = 0 := by omega
    subst this
    exact ⟨rfl, t40⟩
  have hl : ∀ k p, k < T 0 10 → (T 4 k).testBit p = true → p < n := by
    intro k p h1 h2
    rw [(hk k h1).2] at h2
    exact sd_bit_lt ha h2
  refine ⟨fun k h1 => by rw [(hk k h1).2]; exact ⟨ha, na⟩, fun p hp => ⟨0, by omega, by rw [t40]; exact ba p hp⟩, fun k k' p h1 h2 _ _ => by omega, fun k p q h1 hp hq _ _ => by rw [(hk k h1).2]; exact ba q hq, fun k p q h1 h2 h3 => hF p q (hl k p h1 h2) (hl k q h1 h3), fun v hv => ?_, fun i j hi _ _ => by omega, fun k k1 k2 p q x h1 h2 h3 h4 h5 h6 h7 h8 h9 => by omega⟩
  obtain ⟨i, hi, -⟩ := hv
  omega
end

set_option maxHeartbeats 4000000 in
set_option maxRecDepth 100000 in
/-- reckon -/
theorem m_reckon (l : Launch) (D : va_G) (d : Nat → ClassId) (h : Nat → Nat) (S : Nat → Nat → Nat) {n : Nat} {g : Nat → Nat} {F : Nat → Bool} (hI : sd_XI n g F S) (sz : Nat) : Met l yX0_reckon (ws_ yX0_reckon cX0_reckon 6 none) (sd_rm 2) (va_Pc [.ref (h 0)] (sd_P D d (sd_wX h d S) sz)) (sd_Qv D (fun u : Nat → Nat → Nat => sd_XQ n g F u ∧ (S 0 3 = 1 → u = S)) (fun u => sd_wX h d u) (va_A (sd_wX h d S) sz)) 0 0 (va_A (sd_wX h d S) sz) := by
  refine sd_ofW (Qc := sd_Qv D (fun u : Nat → Nat → Nat => sd_XQ n g F u ∧ (S 0 3 = 1 → u = S)) (fun u => sd_wX h d u)) (own := RX0) (by decide) rfl (Nat.le_of_ble_eq_true rfl) ?_
  intro p e s m below meth c ls A E hr hlk hnm hA hW hl
  have hX_ := E.1.1
  have hB_ := E.1.2.1
  have hown := E.1.2.2.2.1
  have hts := E.1.2.2.2.2
  have hl : lv_has ls 6 [(0, .ref (h 0))] := hl
  obtain ⟨hB, h3, hq⟩ := hI
  obtain ⟨⟨hn1, hn2, hg⟩, e0, e1, e2, e3⟩ := id hB
  refine lv_aload_n hX_ hB_ dX0_reckon_0 rfl (lv_at hl 0 rfl) ?_
  refine sd_getX E hW 3 (v := .int (nI (S 0 3))) (by decide) rfl q30 dX0_reckon_1 ?_
  refine sd_if_eq (tgt := 8) hX_ hB_ dX0_reckon_4 (by decide) (by omega) (fun c1 => ?_) (fun c1 => ?_)
  · skip
    have h2n : 2 ^ n ≤ 2 ^ 16 := Nat.pow_le_pow_right (by decide) hn2
    have h1n := Nat.one_le_two_pow (n := S 0 0)
    refine lv_iconst (v := nI 1) hX_ hB_ dX0_reckon_8 (by decide) ?_
    refine lv_aload_n hX_ hB_ dX0_reckon_9 rfl (lv_at hl 0 rfl) ?_
    refine sd_getX E hW 0 (v := .int (nI (S 0 0))) (by decide) rfl q27 dX0_reckon_10 ?_
    refine sd_ishl1 hX_ hB_ dX0_reckon_13 (by omega) ?_
    refine lv_iconst (v := nI 1) hX_ hB_ dX0_reckon_14 (by decide) ?_
    refine sd_isub hX_ hB_ dX0_reckon_15 (by omega) ?_
    refine lv_istore_n (lv' := [(1, .int (nI ((2 ^ (S 0 0)) - 1))), (0, .ref (h 0))]) hX_ hB_ dX0_reckon_16 rfl hl (by decide) rfl (fun ls hl => ?_)
    refine lv_iload_n hX_ hB_ dX0_reckon_17 rfl (lv_at hl 0 rfl) ?_
    refine lv_aload_n hX_ hB_ dX0_reckon_18 rfl (lv_at hl 1 rfl) ?_
    refine sd_getX E hW 1 (v := .int (nI (S 0 1))) (by decide) rfl q28 dX0_reckon_19 ?_
    refine lv_iconst (v := -1) hX_ hB_ dX0_reckon_22 (by decide) ?_
    refine lv_ixor hX_ hB_ dX0_reckon_23 ?_
    refine sd_iandE (sd_andn _ _) hX_ hB_ dX0_reckon_24 ?_
    obtain ⟨ot, eo⟩ : ∃ ot, ot = sd_no (2 ^ S 0 0 - 1) (S 0 1) := ⟨_, rfl⟩
    rw [← eo]
    have ol : ot < 2 ^ n := by rw [eo, e0]; exact sd_no_lt (by have := Nat.one_le_two_pow (n := n); omega)
    have ob : ∀ p, p < n → ot.testBit p = !F p := by
      intro p hp
      rw [eo, sd_no_bit, e0, Nat.testBit_two_pow_sub_one, e3 p (by omega)]
      simp [hp]
    refine lv_istore_n (lv' := [(2, .int (nI ot)), (1, .int (nI ((2 ^ (S 0 0)) - 1))), (0, .ref (h 0))]) hX_ hB_ dX0_reckon_25 rfl hl (by decide) rfl (fun ls hl => ?_)
    refine lv_aload_n hX_ hB_ dX0_reckon_26 rfl (lv_at hl 2 rfl) ?_
    refine lv_iconst (v := nI 0) hX_ hB_ dX0_reckon_27 (by decide) ?_
    refine sd_putX E hW 10 (by decide) rfl rfl q37 dX0_reckon_28 (fun H locs hW => ?_)
    refine lv_aload_n hX_ hB_ dX0_reckon_31 rfl (lv_at hl 2 rfl) ?_
    refine lv_iconst (v := nI 0) hX_ hB_ dX0_reckon_32 (by decide) ?_
    refine sd_putX E hW 11 (by decide) rfl rfl q38 dX0_reckon_33 (fun H locs hW => ?_)
    refine sd_cutH (fun (T : Nat → Nat → Nat) H locs ls => (∀ c, c ≠ 0 → c ≠ 4 → c ≠ 5 → T c = S c) ∧ (∀ j, j ≠ 10 → j ≠ 11 → T 0 j = S 0 j) ∧ sd_HP n g F T (fun _ _ _ => False) ∧ sd_W D A s.heap (sd_wX h d T) H locs ∧ lv_has ls 6 [(0, .ref (h 0))]) (fun T ls => F0 m 118 ls []) (fun T H locs ls hI => ?_) (fun J => ?_)
    · skip
      obtain ⟨fc, fj, hP, hW, hl⟩ := hI
      refine sd_loop1 (fun nn (T : Nat → Nat → Nat) H locs ls => nn = (16 - T 0 10) * 100 + T 0 11 ∧ (∀ c, c ≠ 0 → c ≠ 4 → c ≠ 5 → T c = S c) ∧ (∀ j, j ≠ 10 → j ≠ 11 → T 0 j = S 0 j) ∧ (sd_HP n g F T (fun _ _ _ => False)) ∧ sd_W D A s.heap (sd_wX h d T) H locs ∧ lv_has ls 6 [(0, .ref (h 0))]) (fun nn T H locs ls hI ih1 => ?_) _ T _ _ _ ⟨rfl, fc, fj, hP, hW, lv_sub hl [0] rfl⟩
      · skip
        obtain ⟨rfl, fc, fj, hP, hW, hl⟩ := hI
        have hm := hP.sets
        have hw2 := hP.waits
        have hBT : sd_XB n g F T := sd_XB_of hB (fj 0 (by decide) (by decide)) (fj 1 (by decide) (by decide)) (fc 1 (by decide) (by decide) (by decide))
        refine lv_aload_n hX_ hB_ dX0_reckon_118 rfl (lv_at hl 0 rfl) ?_
        refine sd_getX E hW 11 (v := .int (nI (T 0 11))) (by decide) rfl q38 dX0_reckon_119 ?_
        refine sd_if_le (tgt := 194) hX_ hB_ dX0_reckon_122 (by decide) (by omega) (fun c2 => ?_) (fun c2 => ?_)
        · skip
          refine lv_aload_n hX_ hB_ dX0_reckon_194 rfl (lv_at hl 0 rfl) ?_
          refine sd_callVv (y := yX0_take) (by_ := cX0_take) E hW hA [] rfl rfl (m_take l D d h T hBT hP c2 _) (cwV 0 hts (lw_V q136 q138 qs8 q14 q139) rfl rfl rfl (by decide +kernel) ⟨Nat.le_of_ble_eq_true rfl, Nat.le_of_ble_eq_true rfl⟩) rfl (fun _ => rfl) hl.1 rfl (Nat.le_of_ble_eq_true rfl) dX0_reckon_195 ⟨Nat.zero_le _, Nat.zero_le _⟩ (fun u H locs hw hW => ?_)
          obtain ⟨uq, uc, uj⟩ := hw
          refine lv_aload_n hX_ hB_ dX0_reckon_198 rfl (lv_at hl 0 rfl) ?_
          refine lv_iconst (v := nI 1) hX_ hB_ dX0_reckon_199 (by decide) ?_
          refine sd_putX E hW 3 (by decide) rfl rfl q30 dX0_reckon_200 (fun H locs hW => ?_)
          refine sd_vret E hr hlk (sd_up u 0 3 1) hW ⟨⟨?_, rfl, uq⟩, fun z => by omega⟩ dX0_reckon_203
          exact sd_XB_of hBT (uj 0 (by decide) (by decide)) (uj 1 (by decide) (by decide)) (uc 1 (by decide) (by decide) (by decide))
        · skip
          obtain ⟨q1, eq1⟩ : ∃ q1, q1 = T 0 11 - 1 := ⟨_, rfl⟩
          refine lv_aload_n hX_ hB_ dX0_reckon_125 rfl (lv_at hl 0 rfl) ?_
          refine lv_dup hX_ hB_ dX0_reckon_126 rfl ?_
          refine sd_getX E hW 11 (v := .int (nI (T 0 11))) (by decide) rfl q38 dX0_reckon_127 ?_
          refine lv_iconst (v := nI 1) hX_ hB_ dX0_reckon_130 (by decide) ?_
          refine sd_isub hX_ hB_ dX0_reckon_131 (by omega) ?_
          rw [← eq1]
          have hvlt := hP.wlt hn2 (i := q1) (by omega)
          obtain ⟨kc, a, hkc, ha, hv⟩ := hP.2.2.2.2.2.1 _ ⟨q1, by omega, rfl⟩
          have hkl := (hP.1 kc hkc).1
          have hv2 : T 5 q1 / 2 ^ 1 = T 4 kc := by rw [Nat.pow_one]; omega
          have hv3 : T 5 q1 % 2 = a := by omega
          refine sd_putX E hW 11 (by decide) rfl rfl q38 dX0_reckon_132 (fun H locs hW => ?_)
          refine lv_aload_n hX_ hB_ dX0_reckon_135 rfl (lv_at hl 0 rfl) ?_
          refine lv_aload_n hX_ hB_ dX0_reckon_136 rfl (lv_at hl 0 rfl) ?_
          refine sd_getX E hW 9 (v := .ref (h 5)) (by decide) rfl q36 dX0_reckon_137 ?_
          refine lv_aload_n hX_ hB_ dX0_reckon_140 rfl (lv_at hl 0 rfl) ?_
          refine sd_getX E hW 11 (v := .int (nI q1)) (by decide) rfl q38 dX0_reckon_141 ?_
          refine sd_ald (f := T 5) E hW 5 rfl (by omega) (by decide) dX0_reckon_144 ?_
          refine lv_iconst (v := nI 1) hX_ hB_ dX0_reckon_145 (by decide) ?_
          refine sd_iushr hX_ hB_ dX0_reckon_146 (by omega) (by omega) ?_
          rw [hv2]
          refine lv_aload_n hX_ hB_ dX0_reckon_147 rfl (lv_at hl 0 rfl) ?_
          refine sd_getX E hW 9 (v := .ref (h 5)) (by decide) rfl q36 dX0_reckon_148 ?_
          refine lv_aload_n hX_ hB_ dX0_reckon_151 rfl (lv_at hl 0 rfl) ?_
          refine sd_getX E hW 11 (v := .int (nI q1)) (by decide) rfl q38 dX0_reckon_152 ?_
          refine sd_ald (f := T 5) E hW 5 rfl (by omega) (by decide) dX0_reckon_155 ?_
          refine lv_iconst (v := nI 1) hX_ hB_ dX0_reckon_156 (by decide) ?_
          refine sd_iandE (sd_and1 _) hX_ hB_ dX0_reckon_157 ?_
          rw [hv3]
          have hB1 : sd_XB n g F (sd_up T 0 11 q1) := sd_XB_of hBT rfl rfl rfl
          refine sd_callVi (y := yX0_behind) (by_ := cX0_behind) E hW hA [.int (nI (T 4 kc)), .int (nI a)] rfl rfl (m_behind l D d h (sd_up T 0 11 q1) hB1 (o := T 4 kc) (a := a) (by omega) ha _) (cwV 2 hts (lw_V q120 q122 qs4 q14 q123) rfl rfl rfl (by decide +kernel) ⟨Nat.le_of_ble_eq_true rfl, Nat.le_of_ble_eq_true rfl⟩) rfl (fun _ => rfl) hl.1 rfl (Nat.le_of_ble_eq_true rfl) dX0_reckon_158 ⟨Nat.zero_le _, Nat.zero_le _⟩ (fun r x_ H locs hw hW => ?_)
          obtain ⟨f, rfl, hf, hfb⟩ := hw
          have hfe : ∀ p q, p < n → q < n → dm_eq g F p q → f.testBit p = f.testBit q := by
            intro p q hp hq he
            have g1 := hg (2 * p + a) (by omega)
            have g2 := hg (2 * q + a) (by omega)
            rw [hfb p hp, hfb q hq]
            have k1 := hP.2.2.2.1 kc _ _ hkc g1 g2 (dm_eq_st he ha)
            have k2 := hP.2.2.2.1 kc _ _ hkc g2 g1 (dm_eq_st (dm_eq_sy he) ha)
            revert k1 k2
            cases (T 4 kc).testBit (g (2 * p + a)) <;> cases (T 4 kc).testBit (g (2 * q + a)) <;> simp
          have hP1 : sd_HP n g F (sd_up T 0 11 q1) (fun p q x => x = a ∧ f.testBit p ≠ f.testBit q) := hP.pop c2 hkc ha (by rw [← eq1]; exact hv) hfb (fun j hj => sd_up_j _ _ hj) eq1 rfl rfl
          refine lv_istore_n (lv' := [(3, .int (nI f)), (0, .ref (h 0))]) hX_ hB_ dX0_reckon_161 rfl hl (by decide) rfl (fun ls hl => ?_)
          refine lv_aload_n hX_ hB_ dX0_reckon_162 rfl (lv_at hl 1 rfl) ?_
          refine sd_getX E hW 10 (v := .int (nI (T 0 10))) (by decide) rfl q37 dX0_reckon_163 ?_
          refine lv_istore (lv' := [(4, .int (nI (T 0 10))), (3, .int (nI f)), (0, .ref (h 0))]) hX_ hB_ dX0_reckon_166 hl (by decide) rfl (fun ls hl => ?_)
          refine lv_iconst (v := nI 0) hX_ hB_ dX0_reckon_168 (by decide) ?_
          refine lv_istore (lv' := [(5, .int (nI 0)), (4, .int (nI (T 0 10))), (3, .int (nI f)), (0, .ref (h 0))]) hX_ hB_ dX0_reckon_169 hl (by decide) rfl (fun ls hl => ?_)
          obtain ⟨V, hV⟩ : ∃ V, V = (sd_up T 0 11 q1) := ⟨_, rfl⟩
          rw [← hV] at hW hP1
          have v10 : V 0 10 = T 0 10 := by rw [hV]; rfl
          have v11 : V 0 11 = q1 := by rw [hV]; rfl
          have vc : ∀ c, c ≠ 0 → V c = T c := fun c hc => by rw [hV, sd_up_c _ _ _ hc]
          have vj : ∀ j, j ≠ 11 → V 0 j = T 0 j := fun j hj => by rw [hV, sd_up_j _ _ hj]
          refine sd_loop2 (fun nn (k : Nat) (U : Nat → Nat → Nat) H locs ls => nn = T 0 10 - k ∧ (k ≤ T 0 10) ∧ (∀ c, c ≠ 0 → c ≠ 4 → c ≠ 5 → U c = V c) ∧ (∀ j, j ≠ 10 → j ≠ 11 → U 0 j = V 0 j) ∧ (sd_HP n g F U (fun p q x => x = a ∧ f.testBit p ≠ f.testBit q)) ∧ (T 0 10 ≤ U 0 10) ∧ (∀ j, j < k → sd_un U f j) ∧ (∀ j, T 0 10 ≤ j → j < U 0 10 → sd_un U f j) ∧ (U 0 10 = T 0 10 → U 0 11 = q1) ∧ sd_W D A s.heap (sd_wX h d U) H locs ∧ lv_has ls 6 [(0, .ref (h 0)), (3, .int (nI f)), (4, .int (nI (T 0 10))), (5, .int (nI k))]) (fun nn k U H locs ls hI ih2 => ?_) _ 0 V _ _ _ ⟨rfl, Nat.zero_le _, (fun _ _ _ _ => rfl), (fun _ _ _ => rfl), hP1, Nat.le_of_eq v10.symm, (fun j hj => absurd hj (Nat.not_lt_zero j)), (fun j h1 h2 => by omega), (fun _ => v11), hW, lv_sub hl [3, 2, 1, 0] rfl⟩
          · skip
            obtain ⟨rfl, hk, uc, uj, hPU, um, un1, un2, u11, hW, hl⟩ := hI
            have hmU := hPU.sets
            have hwU := hPU.waits
            refine lv_iload hX_ hB_ dX0_reckon_171 (lv_at hl 3 rfl) ?_
            refine lv_iload hX_ hB_ dX0_reckon_173 (lv_at hl 2 rfl) ?_
            refine sd_icmp_ge (tgt := 191) hX_ hB_ dX0_reckon_175 (by decide) (by omega) (by omega) (fun c3 => ?_) (fun c3 => ?_)
            · skip
              refine lv_goto (tgt := 118) hX_ hB_ dX0_reckon_191 (by decide) ?_
              have hPn : sd_HP n g F U (fun _ _ _ => False) := by
                refine hPU.weak (fun k' p q x hk' hp hq he => he.2 ?_)
                rcases (show k' < k ∨ T 0 10 ≤ k' by omega) with w | w
                · exact un1 k' w p q hp hq
                · exact un2 k' w hk' p q hp hq
              exact ih1 _ U H locs ls (by by_cases w : U 0 10 = T 0 10; (have := u11 w; omega); omega) ⟨rfl, (fun c h0 h4 h5 => by rw [uc c h0 h4 h5, vc c h0]; exact fc c h0 h4 h5), (fun j h0 h1 => by rw [uj j h0 h1, vj j h1]; exact fj j h0 h1), hPn, hW, lv_sub hl [0] rfl⟩
            · skip
              have hBU : sd_XB n g F U := sd_XB_of hBT (by rw [uj 0 (by decide) (by decide), vj 0 (by decide)]) (by rw [uj 1 (by decide) (by decide), vj 1 (by decide)]) (by rw [uc 1 (by decide) (by decide) (by decide), vc 1 (by decide)])
              refine lv_aload_n hX_ hB_ dX0_reckon_178 rfl (lv_at hl 0 rfl) ?_
              refine lv_iload hX_ hB_ dX0_reckon_179 (lv_at hl 3 rfl) ?_
              refine lv_iload_n hX_ hB_ dX0_reckon_181 rfl (lv_at hl 1 rfl) ?_
              refine sd_callVv (y := yX0_split) (by_ := cX0_split) E hW hA [.int (nI k), .int (nI f)] rfl rfl (m_split l D d h U hBU (k := k) (f := f) (a := a) (by omega) hfe hPU (by omega) _) (cwV 2 hts (lw_V q124 q126 qs5 q14 q127) rfl rfl rfl (by decide +kernel) ⟨Nat.le_of_ble_eq_true rfl, Nat.le_of_ble_eq_true rfl⟩) rfl (fun _ => rfl) hl.1 rfl (Nat.le_of_ble_eq_true rfl) dX0_reckon_182 ⟨Nat.zero_le _, Nat.zero_le _⟩ (fun X H locs hw hW => ?_)
              obtain ⟨xc, xj, hPX, xm, x4, xk, xn, x11⟩ := hw
              have keep : ∀ j, j < U 0 10 → j ≠ k → sd_un U f j → sd_un X f j := fun j hj hne hu p q hp hq => by rw [x4 j hj hne] at hp hq; exact hu p q hp hq
              refine sd_iinc (lv' := [(5, .int (nI (k + 1))), (0, .ref (h 0)), (3, .int (nI f)), (4, .int (nI (T 0 10)))]) hX_ hB_ dX0_reckon_185 hl (k := 3) rfl (by decide) rfl (fun ls hl => ?_)
              refine lv_goto (tgt := 171) hX_ hB_ dX0_reckon_188 (by decide) ?_
              exact ih2 _ (k + 1) X H locs ls (by omega) ⟨rfl, by omega, (fun c h0 h4 h5 => by rw [xc c h0 h4 h5]; exact uc c h0 h4 h5), (fun j h0 h1 => by rw [xj j h0 h1]; exact uj j h0 h1), hPX, by omega, (fun j hj => by rcases (show j < k ∨ j = k by omega) with w | w; exact keep j (by omega) (by omega) (un1 j w); (rw [w]; exact xk)), (fun j h1 h2 => by rcases Nat.lt_or_ge j (U 0 10) with w | w; exact keep j w (by omega) (un2 j h1 w); exact xn j w h2), (fun w => by rw [x11 (by omega)]; exact u11 (by omega)), hW, lv_sub hl [1, 2, 3, 0] rfl⟩
    · skip
      have heb : S 0 1 < 2 ^ 16 := by omega
      refine lv_aload_n hX_ hB_ dX0_reckon_36 rfl (lv_at hl 2 rfl) ?_
      refine sd_getX E hW 1 (v := .int (nI (S 0 1))) (by decide) rfl q28 dX0_reckon_37 ?_
      refine sd_if_eq (tgt := 63) hX_ hB_ dX0_reckon_40 (by decide) (by omega) (fun c4 => ?_) (fun c4 => ?_)
      · skip
        have hF : ∀ p, p < n → F p = false := fun p hp => by rw [← e3 p (by omega), c4, Nat.zero_testBit]
        refine lv_iload_n hX_ hB_ dX0_reckon_63 rfl (lv_at hl 0 rfl) ?_
        refine sd_if_eq (tgt := 84) hX_ hB_ dX0_reckon_64 (by decide) (by omega) (fun c5 => ?_) (fun c5 => ?_)
        · skip
          have z := ob 0 (by omega)
          rw [c5, hF 0 (by omega), Nat.zero_testBit] at z
          cases z
        · skip
          refine lv_aload_n hX_ hB_ dX0_reckon_67 rfl (lv_at hl 2 rfl) ?_
          refine sd_getX E hW 8 (v := .ref (h 4)) (by decide) rfl q35 dX0_reckon_68 ?_
          refine lv_aload_n hX_ hB_ dX0_reckon_71 rfl (lv_at hl 2 rfl) ?_
          refine lv_dup hX_ hB_ dX0_reckon_72 rfl ?_
          refine sd_getX E hW 10 (v := .int (nI 0)) (by decide) rfl q37 dX0_reckon_73 ?_
          refine lv_dup_x1 hX_ hB_ dX0_reckon_76 rfl rfl ?_
          refine lv_iconst (v := nI 1) hX_ hB_ dX0_reckon_77 (by decide) ?_
          refine sd_iadd hX_ hB_ dX0_reckon_78 ?_
          refine sd_putX E hW 10 (by decide) rfl rfl q37 dX0_reckon_79 (fun H locs hW => ?_)
          refine lv_iload_n hX_ hB_ dX0_reckon_82 rfl (lv_at hl 0 rfl) ?_
          refine sd_astX E hW 4 (by decide) (show 0 < 16 by omega) dX0_reckon_83 (fun H locs hW => ?_)
          refine lv_aload_n hX_ hB_ dX0_reckon_84 rfl (lv_at hl 2 rfl) ?_
          refine sd_getX E hW 10 (v := .int (nI (0 + 1))) (by decide) rfl q37 dX0_reckon_85 ?_
          refine lv_iconst (v := nI 2) hX_ hB_ dX0_reckon_88 (by decide) ?_
          refine sd_icmp_ne (tgt := 118) hX_ hB_ dX0_reckon_89 (by decide) (by omega) (by omega) (fun c6 => ?_) (fun c6 => ?_)
          · skip
            refine J (sd_up (sd_up (sd_up (sd_up S 0 10 0) 0 11 0) 0 10 (0 + 1)) 4 0 ot) H locs ls ⟨fun c h0 h4 h5 => ?_, fun j h0 h1 => ?_, ?_, hW, lv_sub hl [2] rfl⟩
            · rw [sd_up_c _ _ _ h4, sd_up_c _ _ _ h0, sd_up_c _ _ _ h0, sd_up_c _ _ _ h0]
            · rw [sd_up_c _ _ _ (by decide), sd_up_j _ _ h0, sd_up_j _ _ h1, sd_up_j _ _ h0]
            · exact sd_HP.one ol c5 (fun p hp => by rw [ob p hp, hF p hp]; rfl) (fun p q hp hq => by rw [hF p hp, hF q hq]) rfl rfl rfl
          · skip
            omega
      · skip
        refine lv_aload_n hX_ hB_ dX0_reckon_43 rfl (lv_at hl 2 rfl) ?_
        refine sd_getX E hW 8 (v := .ref (h 4)) (by decide) rfl q35 dX0_reckon_44 ?_
        refine lv_aload_n hX_ hB_ dX0_reckon_47 rfl (lv_at hl 2 rfl) ?_
        refine lv_dup hX_ hB_ dX0_reckon_48 rfl ?_
        refine sd_getX E hW 10 (v := .int (nI 0)) (by decide) rfl q37 dX0_reckon_49 ?_
        refine lv_dup_x1 hX_ hB_ dX0_reckon_52 rfl rfl ?_
        refine lv_iconst (v := nI 1) hX_ hB_ dX0_reckon_53 (by decide) ?_
        refine sd_iadd hX_ hB_ dX0_reckon_54 ?_
        refine sd_putX E hW 10 (by decide) rfl rfl q37 dX0_reckon_55 (fun H locs hW => ?_)
        refine lv_aload_n hX_ hB_ dX0_reckon_58 rfl (lv_at hl 2 rfl) ?_
        refine sd_getX E hW 1 (v := .int (nI (S 0 1))) (by decide) rfl q28 dX0_reckon_59 ?_
        refine sd_astX E hW 4 (by decide) (show 0 < 16 by omega) dX0_reckon_62 (fun H locs hW => ?_)
        refine lv_iload_n hX_ hB_ dX0_reckon_63 rfl (lv_at hl 0 rfl) ?_
        refine sd_if_eq (tgt := 84) hX_ hB_ dX0_reckon_64 (by decide) (by omega) (fun c5 => ?_) (fun c5 => ?_)
        · skip
          refine lv_aload_n hX_ hB_ dX0_reckon_84 rfl (lv_at hl 2 rfl) ?_
          refine sd_getX E hW 10 (v := .int (nI (0 + 1))) (by decide) rfl q37 dX0_reckon_85 ?_
          refine lv_iconst (v := nI 2) hX_ hB_ dX0_reckon_88 (by decide) ?_
          have hF : ∀ p, p < n → F p = true := fun p hp => by have z := ob p hp; rw [c5, Nat.zero_testBit] at z; revert z; cases F p <;> simp
          refine sd_icmp_ne (tgt := 118) hX_ hB_ dX0_reckon_89 (by decide) (by omega) (by omega) (fun c6 => ?_) (fun c6 => ?_)
          · skip
            refine J (sd_up (sd_up (sd_up (sd_up S 0 10 0) 0 11 0) 0 10 (0 + 1)) 4 0 (S 0 1)) H locs ls ⟨fun c h0 h4 h5 => ?_, fun j h0 h1 => ?_, ?_, hW, lv_sub hl [2] rfl⟩
            · rw [sd_up_c _ _ _ h4, sd_up_c _ _ _ h0, sd_up_c _ _ _ h0, sd_up_c _ _ _ h0]
            · rw [sd_up_c _ _ _ (by decide), sd_up_j _ _ h0, sd_up_j _ _ h1, sd_up_j _ _ h0]
            · exact sd_HP.one e2 c4 (fun p hp => by rw [e3 p (by omega), hF p hp]) (fun p q hp hq => by rw [hF p hp, hF q hq]) rfl rfl rfl
          · skip
            omega
        · skip
          refine lv_aload_n hX_ hB_ dX0_reckon_67 rfl (lv_at hl 2 rfl) ?_
          refine sd_getX E hW 8 (v := .ref (h 4)) (by decide) rfl q35 dX0_reckon_68 ?_
          refine lv_aload_n hX_ hB_ dX0_reckon_71 rfl (lv_at hl 2 rfl) ?_
          refine lv_dup hX_ hB_ dX0_reckon_72 rfl ?_
          refine sd_getX E hW 10 (v := .int (nI (0 + 1))) (by decide) rfl q37 dX0_reckon_73 ?_
          refine lv_dup_x1 hX_ hB_ dX0_reckon_76 rfl rfl ?_
          refine lv_iconst (v := nI 1) hX_ hB_ dX0_reckon_77 (by decide) ?_
          refine sd_iadd hX_ hB_ dX0_reckon_78 ?_
          refine sd_putX E hW 10 (by decide) rfl rfl q37 dX0_reckon_79 (fun H locs hW => ?_)
          refine lv_iload_n hX_ hB_ dX0_reckon_82 rfl (lv_at hl 0 rfl) ?_
          refine sd_astX E hW 4 (by decide) (show 0 + 1 < 16 by omega) dX0_reckon_83 (fun H locs hW => ?_)
          refine lv_aload_n hX_ hB_ dX0_reckon_84 rfl (lv_at hl 2 rfl) ?_
          refine sd_getX E hW 10 (v := .int (nI ((0 + 1) + 1))) (by decide) rfl q37 dX0_reckon_85 ?_
          refine lv_iconst (v := nI 2) hX_ hB_ dX0_reckon_88 (by decide) ?_
          refine sd_icmp_ne (tgt := 118) hX_ hB_ dX0_reckon_89 (by decide) (by omega) (by omega) (fun c6 => ?_) (fun c6 => ?_)
          · skip
            omega
          · skip
            refine lv_aload_n hX_ hB_ dX0_reckon_92 rfl (lv_at hl 2 rfl) ?_
            refine lv_aload_n hX_ hB_ dX0_reckon_93 rfl (lv_at hl 2 rfl) ?_
            refine sd_getX E hW 1 (v := .int (nI (S 0 1))) (by decide) rfl q28 dX0_reckon_94 ?_
            refine sd_callSi (y := yJ1_bitCount) (by_ := cJ1_bitCount) E hW hA [.int (nI (S 0 1))] (m_bitCount l D d (sd_wX h d ((sd_up (sd_up (sd_up (sd_up (sd_up (sd_up S 0 10 0) 0 11 0) 0 10 (0 + 1)) 4 0 (S 0 1)) 0 10 ((0 + 1) + 1)) 4 (0 + 1) ot))) (v := S 0 1) (by omega) _) (va_cwS 1 hts (lw_S q110 q111 q17 q112) rfl rfl rfl (by decide +kernel) ⟨Nat.le_of_ble_eq_true rfl, Nat.le_of_ble_eq_true rfl⟩) rfl (fun _ => rfl) hl.1 rfl (Nat.le_of_ble_eq_true rfl) dX0_reckon_97 ⟨Nat.zero_le _, Nat.zero_le _⟩ (fun r x_ H locs hw hW => ?_)
            subst hw
            have hpc_a : sd_pc (S 0 1) ≤ 16 := dm_cnt_le (fun i => (S 0 1).testBit i) 16
            refine lv_iload_n hX_ hB_ dX0_reckon_100 rfl (lv_at hl 0 rfl) ?_
            refine sd_callSi (y := yJ1_bitCount) (by_ := cJ1_bitCount) E hW hA [.int (nI ot)] (m_bitCount l D d (sd_wX h d ((sd_up (sd_up (sd_up (sd_up (sd_up (sd_up S 0 10 0) 0 11 0) 0 10 (0 + 1)) 4 0 (S 0 1)) 0 10 ((0 + 1) + 1)) 4 (0 + 1) ot))) (v := ot) (by omega) _) (va_cwS 1 hts (lw_S q110 q111 q17 q112) rfl rfl rfl (by decide +kernel) ⟨Nat.le_of_ble_eq_true rfl, Nat.le_of_ble_eq_true rfl⟩) rfl (fun _ => rfl) hl.1 rfl (Nat.le_of_ble_eq_true rfl) dX0_reckon_101 ⟨Nat.zero_le _, Nat.zero_le _⟩ (fun r x_ H locs hw hW => ?_)
            subst hw
            have hpc_b : sd_pc (ot) ≤ 16 := dm_cnt_le (fun i => (ot).testBit i) 16
            refine sd_cut (fun z : Nat => z = S 0 1 ∨ z = ot) (fun z => F0 m 115 ls [.int (nI z), .ref (h 0)]) (fun z hz => ?_) (fun K => ?_)
            · skip
              refine sd_callVv (y := yX0_wait) (by_ := cX0_wait) E hW hA [.int (nI z)] rfl rfl (m_wait l D d h (sd_up (sd_up (sd_up (sd_up (sd_up (sd_up S 0 10 0) 0 11 0) 0 10 (0 + 1)) 4 0 (S 0 1)) 0 10 ((0 + 1) + 1)) 4 (0 + 1) ot) (o := z) rfl _) (cwV 1 hts (lw_V q116 q118 qs3 q14 q119) rfl rfl rfl (by decide +kernel) ⟨Nat.le_of_ble_eq_true rfl, Nat.le_of_ble_eq_true rfl⟩) rfl (fun _ => rfl) hl.1 rfl (Nat.le_of_ble_eq_true rfl) dX0_reckon_115 ⟨Nat.zero_le _, Nat.zero_le _⟩ (fun u H locs hw hW => ?_)
              subst hw
              refine J (sd_up (sd_up (sd_up (sd_up (sd_up (sd_up (sd_up (sd_up (sd_up (sd_up S 0 10 0) 0 11 0) 0 10 (0 + 1)) 4 0 (S 0 1)) 0 10 ((0 + 1) + 1)) 4 (0 + 1) ot) 5 0 (2 * z)) 0 11 1) 5 1 (2 * z + 1)) 0 11 2) H locs ls ⟨fun c h0 h4 h5 => ?_, fun j h0 h1 => ?_, ?_, hW, lv_sub hl [2] rfl⟩
              · rw [sd_up_c _ _ _ h0, sd_up_c _ _ _ h5, sd_up_c _ _ _ h0, sd_up_c _ _ _ h5, sd_up_c _ _ _ h4, sd_up_c _ _ _ h0, sd_up_c _ _ _ h4, sd_up_c _ _ _ h0, sd_up_c _ _ _ h0, sd_up_c _ _ _ h0]
              · rw [sd_up_j _ _ h1, sd_up_c _ _ _ (by decide), sd_up_j _ _ h1, sd_up_c _ _ _ (by decide), sd_up_c _ _ _ (by decide), sd_up_j _ _ h0, sd_up_c _ _ _ (by decide), sd_up_j _ _ h0, sd_up_j _ _ h1, sd_up_j _ _ h0]
              · exact sd_HP.two hn2 e2 ol c4 c5 (fun p hp => e3 p (by omega)) ob hz rfl rfl rfl rfl rfl rfl
            · skip
              refine sd_icmp_gt (tgt := 114) hX_ hB_ dX0_reckon_104 (by decide) (by omega) (by omega) (fun c7 => ?_) (fun c7 => ?_)
              · skip
                refine lv_iload_n hX_ hB_ dX0_reckon_114 rfl (lv_at hl 0 rfl) ?_
                exact K ot (Or.inr rfl)
              · skip
                refine lv_aload_n hX_ hB_ dX0_reckon_107 rfl (lv_at hl 2 rfl) ?_
                refine sd_getX E hW 1 (v := .int (nI (S 0 1))) (by decide) rfl q28 dX0_reckon_108 ?_
                refine lv_goto (tgt := 115) hX_ hB_ dX0_reckon_111 (by decide) ?_
                exact K (S 0 1) (Or.inl rfl)
  · skip
    have h31 : S 0 3 = 1 := by omega
    exact sd_vret E hr hlk S hW ⟨⟨hB, h31, hq h31⟩, fun _ => rfl⟩ dX0_reckon_7
end
section
section
variable {n : Nat} {g : Nat → Nat} {F : Nat → Bool} {S : Nat → Nat → Nat}
theorem sd_kinds_cnt (h : sd_quo n g F S) : S 0 6 = dm_cnt (fun p => dm_b (∀ q, q < p → ¬ dm_eq g F p q)) n := by
  obtain ⟨h1, h2, h3, h4, h5, h6, h7⟩ := h
  have h8 := dm_img (S 2) (fun _ => True) (S 0 6) n h2
  rw [dm_cnt_all (P := fun k => dm_b (∃ p, p < n ∧ True ∧ S 2 p = k)) (fun k hk => dm_b_t.mpr (by obtain ⟨p, hp, e⟩ := h3 k hk; exact ⟨p, hp, trivial, e⟩))] at h8
  rw [h8]
  refine dm_cnt_congr (fun p hp => dm_b_e ⟨fun z q hq e => ?_, fun z => ⟨trivial, fun q hq _ e => ?_⟩⟩)
  · exact z.2 q hq trivial ((h7 q p (by omega) hp).mpr (dm_eq_sy e))
  · exact z q hq (dm_eq_sy ((h7 q p (by omega) hp).mp e))
theorem sd_needed_cnt (h : sd_quo n g F S) {s0 M : Nat} (hM : ∀ k, M.testBit k = true ↔ ∃ p, p < n ∧ dm_re g s0 p ∧ S 2 p = k) : sd_pc M = dm_cnt (fun p => dm_b (dm_re g s0 p ∧ ∀ q, q < p → dm_re g s0 q → ¬ dm_eq g F p q)) n := by
  obtain ⟨h1, h2, h3, h4, h5, h6, h7⟩ := h
  have h8 := dm_img (S 2) (fun p => dm_re g s0 p) (S 0 6) n h2
  have h9 : sd_pc M = dm_cnt (fun k => dm_b (∃ p, p < n ∧ dm_re g s0 p ∧ S 2 p = k)) (S 0 6) := by
    unfold sd_pc
    rw [show 16 = S 0 6 + (16 - S 0 6) by omega, dm_cnt_app, dm_cnt_0 (P := fun i => M.testBit (S 0 6 + i)), Nat.add_zero]
    · refine dm_cnt_congr (fun k _ => ?_)
      cases e : M.testBit k with
      | true => exact (dm_b_t.mpr ((hM k).mp e)).symm
      | false =>
        refine (dm_b_f.mpr fun z => ?_).symm
        rw [(hM k).mpr z] at e
        cases e
    · intro i _
      cases e : M.testBit (S 0 6 + i) with
      | false => rfl
      | true =>
        obtain ⟨p, hp, -, e2⟩ := (hM _).mp e
        have := h2 p hp
        omega
  rw [h9, h8]
  refine dm_cnt_congr (fun p hp => dm_b_e ⟨fun z => ⟨z.1, fun q hq hr e => ?_⟩, fun z => ⟨z.1, fun q hq hr e => ?_⟩⟩)
  · exact z.2 q hq hr ((h7 q p (by omega) hp).mpr (dm_eq_sy e))
  · exact z.2 q hq hr (dm_eq_sy ((h7 q p (by omega) hp).mp e))
end

set_option maxHeartbeats 4000000 in
set_option maxRecDepth 100000 in
/-- the kind of a state -/
theorem m_kindOf (l : Launch) (D : va_G) (d : Nat → ClassId) (h : Nat → Nat) (S : Nat → Nat → Nat) {n : Nat} {g : Nat → Nat} {F : Nat → Bool} (hI : sd_XI n g F S) {v : Nat} (sz : Nat) : Met l yX0_kindOf (ws_ yX0_kindOf cX0_kindOf 2 (some .int)) (sd_rm 3) (va_Pc [.ref (h 0), .int (nI v)] (sd_P D d (sd_wX h d S) sz)) (sd_Qi D (fun (r : Int32) (u : Nat → Nat → Nat) => r = nI (u 2 (v % 2147483648 % n)) ∧ sd_XQ n g F u ∧ (S 0 3 = 1 → u = S)) (fun u => sd_wX h d u) (va_A (sd_wX h d S) sz)) 0 0 (va_A (sd_wX h d S) sz) := by
  refine sd_ofW (Qc := sd_Qi D (fun (r : Int32) (u : Nat → Nat → Nat) => r = nI (u 2 (v % 2147483648 % n)) ∧ sd_XQ n g F u ∧ (S 0 3 = 1 → u = S)) (fun u => sd_wX h d u)) (own := RX0) (by decide) rfl (Nat.le_of_ble_eq_true rfl) ?_
  intro p e s m below meth c ls A E hr hlk hnm hA hW hl
  have hX_ := E.1.1
  have hB_ := E.1.2.1
  have hown := E.1.2.2.2.1
  have hts := E.1.2.2.2.2
  have hl : lv_has ls 2 [(0, .ref (h 0)), (1, .int (nI v))] := hl
  refine lv_aload_n hX_ hB_ dX0_kindOf_0 rfl (lv_at hl 0 rfl) ?_
  refine sd_callVv (y := yX0_reckon) (by_ := cX0_reckon) E hW hA [] rfl rfl (m_reckon l D d h S hI _) (cwV 0 hts (lw_V q106 q108 qs2 q14 q109) rfl rfl rfl (by decide +kernel) ⟨Nat.le_of_ble_eq_true rfl, Nat.le_of_ble_eq_true rfl⟩) rfl (fun _ => rfl) hl.1 rfl (Nat.le_of_ble_eq_true rfl) dX0_kindOf_1 ⟨Nat.zero_le _, Nat.zero_le _⟩ (fun u H locs hw hW => ?_)
  obtain ⟨hQ, hu⟩ := hw
  obtain ⟨⟨⟨hn1, hn2, hg⟩, e0, e1, e2, e3⟩, r3, ⟨k6, kl, ks, kt, l7, lF, ke⟩⟩ := id hQ
  refine lv_aload_n hX_ hB_ dX0_kindOf_4 rfl (lv_at hl 0 rfl) ?_
  refine sd_getX E hW 4 (v := .ref (h 2)) (by decide) rfl q31 dX0_kindOf_5 ?_
  refine lv_aload_n hX_ hB_ dX0_kindOf_8 rfl (lv_at hl 0 rfl) ?_
  refine lv_iload_n hX_ hB_ dX0_kindOf_9 rfl (lv_at hl 1 rfl) ?_
  refine sd_callVi (y := yX0_state) (by_ := cX0_state) E hW hA [.int (nI v)] rfl rfl (m_state l D d h u (v := v) (by omega) (by omega) _) (cwV 1 hts (lw_V q93 q95 qs0 q14 q96) rfl rfl rfl (by decide +kernel) ⟨Nat.le_of_ble_eq_true rfl, Nat.le_of_ble_eq_true rfl⟩) rfl (fun _ => rfl) hl.1 rfl (Nat.le_of_ble_eq_true rfl) dX0_kindOf_10 ⟨Nat.zero_le _, Nat.zero_le _⟩ (fun r x_ H locs hw hW => ?_)
  subst hw
  rw [e0]
  have hv1 : v % 2147483648 % n < n := Nat.mod_lt _ (by omega)
  refine sd_ald (f := u 2) E hW 2 rfl (by omega) (by decide) dX0_kindOf_13 ?_
  exact sd_iret E hr hlk u hW ⟨rfl, hQ, hu⟩ dX0_kindOf_14

set_option maxHeartbeats 4000000 in
set_option maxRecDepth 100000 in
/-- takes -/
theorem m_Xtakes (l : Launch) (D : va_G) (d : Nat → ClassId) (h : Nat → Nat) (S : Nat → Nat → Nat) {n : Nat} {g : Nat → Nat} {F : Nat → Bool} (hI : sd_XI n g F S) {v a k : Nat} (ha : a < 2 ^ 32) (sz : Nat) : Met l yX0_takes (ws_ yX0_takes cX0_takes 6 (some .boolean)) (sd_rm 4) (va_Pc [.ref (h 0), .int (nI v), .int (nI a), .int (nI k)] (sd_P D d (sd_wX h d S) sz)) (sd_Qi D (fun (r : Int32) (u : Nat → Nat → Nat) => r = nI (if F (dm_tk g (v % 2147483648 % n) a (k % 32)) = true then 1 else 0) ∧ sd_XQ n g F u) (fun u => sd_wX h d u) (va_A (sd_wX h d S) sz)) 0 0 (va_A (sd_wX h d S) sz) := by
  refine sd_ofW (Qc := sd_Qi D (fun (r : Int32) (u : Nat → Nat → Nat) => r = nI (if F (dm_tk g (v % 2147483648 % n) a (k % 32)) = true then 1 else 0) ∧ sd_XQ n g F u) (fun u => sd_wX h d u)) (own := RX0) (by decide) rfl (Nat.le_of_ble_eq_true rfl) ?_
  intro p e s m below meth c ls A E hr hlk hnm hA hW hl
  have hX_ := E.1.1
  have hB_ := E.1.2.1
  have hown := E.1.2.2.2.1
  have hts := E.1.2.2.2.2
  have hl : lv_has ls 6 [(0, .ref (h 0)), (1, .int (nI v)), (2, .int (nI a)), (3, .int (nI k))] := hl
  refine lv_aload_n hX_ hB_ dX0_takes_0 rfl (lv_at hl 0 rfl) ?_
  refine lv_iload_n hX_ hB_ dX0_takes_1 rfl (lv_at hl 1 rfl) ?_
  refine sd_callVi (y := yX0_kindOf) (by_ := cX0_kindOf) E hW hA [.int (nI v)] rfl rfl (m_kindOf l D d h S hI (v := v) _) (cwV 1 hts (lw_V q102 q104 qs1 q14 q105) rfl rfl rfl (by decide +kernel) ⟨Nat.le_of_ble_eq_true rfl, Nat.le_of_ble_eq_true rfl⟩) rfl (fun _ => rfl) hl.1 rfl (Nat.le_of_ble_eq_true rfl) dX0_takes_2 ⟨Nat.zero_le _, Nat.zero_le _⟩ (fun r u H locs hw hW => ?_)
  obtain ⟨rfl, hQ, -⟩ := hw
  obtain ⟨⟨⟨hn1, hn2, hg⟩, e0, e1, e2, e3⟩, r3, ⟨k6, kl, ks, kt, l7, lF, ke⟩⟩ := id hQ
  obtain ⟨p1, ep⟩ : ∃ p1, p1 = v % 2147483648 % n := ⟨_, rfl⟩
  have hp1 : p1 < n := by rw [ep]; exact Nat.mod_lt _ (by omega)
  rw [← ep]
  refine lv_istore (lv' := [(4, .int (nI (u 2 p1))), (0, .ref (h 0)), (1, .int (nI v)), (2, .int (nI a)), (3, .int (nI k))]) hX_ hB_ dX0_takes_5 hl (by decide) rfl (fun ls hl => ?_)
  refine lv_iconst (v := nI 0) hX_ hB_ dX0_takes_7 (by decide) ?_
  refine lv_istore (lv' := [(5, .int (nI 0)), (4, .int (nI (u 2 p1))), (0, .ref (h 0)), (1, .int (nI v)), (2, .int (nI a)), (3, .int (nI k))]) hX_ hB_ dX0_takes_8 hl (by decide) rfl (fun ls hl => ?_)
  refine sd_loop1 (fun nn (i : Nat) H locs ls => nn = 32 - i ∧ (i ≤ k % 32) ∧ sd_W D A s.heap (sd_wX h d u) H locs ∧ lv_has ls 6 [(0, .ref (h 0)), (2, .int (nI a)), (3, .int (nI k)), (4, .int (nI (u 2 (dm_tk g p1 a i)))), (5, .int (nI i))]) (fun nn i H locs ls hI ih => ?_) _ 0 _ _ _ ⟨rfl, Nat.zero_le _, hW, lv_sub hl [2, 4, 5, 1, 0] rfl⟩
  · skip
    obtain ⟨rfl, hi, hW, hl⟩ := hI
    have ht := dm_tk_lt hQ.1.1 hp1 a i
    have hkt := kl _ ht
    refine lv_iload hX_ hB_ dX0_takes_10 (lv_at hl 4 rfl) ?_
    refine lv_iload_n hX_ hB_ dX0_takes_12 rfl (lv_at hl 2 rfl) ?_
    refine lv_bipush (v := nI 31) hX_ hB_ dX0_takes_13 (by decide) ?_
    refine sd_iandE (sd_and31 _) hX_ hB_ dX0_takes_15 ?_
    refine sd_icmp_ge (tgt := 43) hX_ hB_ dX0_takes_16 (by decide) (by omega) (by omega) (fun c1 => ?_) (fun c1 => ?_)
    · skip
      have ei : i = k % 32 := by omega
      refine lv_aload_n hX_ hB_ dX0_takes_43 rfl (lv_at hl 0 rfl) ?_
      refine sd_getX E hW 7 (v := .int (nI (u 0 7))) (by decide) rfl q34 dX0_takes_44 ?_
      refine lv_iload hX_ hB_ dX0_takes_47 (lv_at hl 3 rfl) ?_
      refine sd_ishr hX_ hB_ dX0_takes_49 (by omega) (by omega) ?_
      refine lv_iconst (v := nI 1) hX_ hB_ dX0_takes_50 (by decide) ?_
      refine sd_iandE (sd_and1 _) hX_ hB_ dX0_takes_51 ?_
      refine lv_iconst (v := nI 1) hX_ hB_ dX0_takes_52 (by decide) ?_
      have hFe := lF _ ht
      rw [← ei]
      refine sd_icmp_ne (tgt := 60) hX_ hB_ dX0_takes_53 (by decide) (by omega) (by omega) (fun c2 => ?_) (fun c2 => ?_)
      · skip
        refine lv_iconst (v := nI 0) hX_ hB_ dX0_takes_60 (by decide) ?_
        refine sd_zret (by decide) E hr hlk u hW ⟨?_, hQ⟩ dX0_takes_61
        rw [if_neg]
        rw [← hFe]
        exact fun z => c2 (sd_tb1.mpr z)
      · skip
        refine lv_iconst (v := nI 1) hX_ hB_ dX0_takes_56 (by decide) ?_
        refine lv_goto (tgt := 61) hX_ hB_ dX0_takes_57 (by decide) ?_
        refine sd_zret (by decide) E hr hlk u hW ⟨?_, hQ⟩ dX0_takes_61
        rw [if_pos]
        rw [← hFe]
        exact sd_tb1.mp c2
    · skip
      have hbb : a / 2 ^ i % 2 < 2 := Nat.mod_lt _ (by decide)
      refine lv_aload_n hX_ hB_ dX0_takes_19 rfl (lv_at hl 0 rfl) ?_
      refine sd_getX E hW 5 (v := .ref (h 3)) (by decide) rfl q32 dX0_takes_20 ?_
      refine lv_iconst (v := nI 2) hX_ hB_ dX0_takes_23 (by decide) ?_
      refine lv_iload hX_ hB_ dX0_takes_24 (lv_at hl 3 rfl) ?_
      refine sd_imul hX_ hB_ dX0_takes_26 ?_
      refine lv_iload_n hX_ hB_ dX0_takes_27 rfl (lv_at hl 1 rfl) ?_
      refine lv_iload hX_ hB_ dX0_takes_28 (lv_at hl 4 rfl) ?_
      refine sd_iushr hX_ hB_ dX0_takes_30 (by omega) (by omega) ?_
      refine lv_iconst (v := nI 1) hX_ hB_ dX0_takes_31 (by decide) ?_
      refine sd_iandE (sd_and1 _) hX_ hB_ dX0_takes_32 ?_
      refine sd_iadd hX_ hB_ dX0_takes_33 ?_
      refine sd_ald (f := u 3) E hW 3 rfl (by omega) (by decide) dX0_takes_34 ?_
      rw [kt _ _ ht hbb]
      refine lv_istore (lv' := [(4, .int (nI (u 2 (dm_tk g p1 a (i + 1))))), (0, .ref (h 0)), (2, .int (nI a)), (3, .int (nI k)), (5, .int (nI i))]) hX_ hB_ dX0_takes_35 hl (by decide) rfl (fun ls hl => ?_)
      refine sd_iinc (lv' := [(5, .int (nI (i + 1))), (4, .int (nI (u 2 (dm_tk g p1 a (i + 1))))), (0, .ref (h 0)), (2, .int (nI a)), (3, .int (nI k))]) hX_ hB_ dX0_takes_37 hl (k := 4) rfl (by decide) rfl (fun ls hl => ?_)
      refine lv_goto (tgt := 10) hX_ hB_ dX0_takes_40 (by decide) ?_
      exact ih _ (i + 1) H locs ls (by omega) ⟨rfl, by omega, hW, lv_sub hl [2, 3, 4, 1, 0] rfl⟩

set_option maxHeartbeats 4000000 in
set_option maxRecDepth 100000 in
/-- same -/
theorem m_Xsame (l : Launch) (D : va_G) (d : Nat → ClassId) (h : Nat → Nat) (S : Nat → Nat → Nat) {n : Nat} {g : Nat → Nat} {F : Nat → Bool} (hI : sd_XI n g F S) {v a : Nat} (sz : Nat) : Met l yX0_same (ws_ yX0_same cX0_same 3 (some .boolean)) (sd_rm 4) (va_Pc [.ref (h 0), .int (nI v), .int (nI a)] (sd_P D d (sd_wX h d S) sz)) (sd_Qi D (fun (r : Int32) (u : Nat → Nat → Nat) => r = nI (if dm_b (dm_eq g F (v % 2147483648 % n) (a % 2147483648 % n)) = true then 1 else 0) ∧ sd_XQ n g F u) (fun u => sd_wX h d u) (va_A (sd_wX h d S) sz)) 0 0 (va_A (sd_wX h d S) sz) := by
  refine sd_ofW (Qc := sd_Qi D (fun (r : Int32) (u : Nat → Nat → Nat) => r = nI (if dm_b (dm_eq g F (v % 2147483648 % n) (a % 2147483648 % n)) = true then 1 else 0) ∧ sd_XQ n g F u) (fun u => sd_wX h d u)) (own := RX0) (by decide) rfl (Nat.le_of_ble_eq_true rfl) ?_
  intro p e s m below meth c ls A E hr hlk hnm hA hW hl
  have hX_ := E.1.1
  have hB_ := E.1.2.1
  have hown := E.1.2.2.2.1
  have hts := E.1.2.2.2.2
  have hl : lv_has ls 3 [(0, .ref (h 0)), (1, .int (nI v)), (2, .int (nI a))] := hl
  refine lv_aload_n hX_ hB_ dX0_same_0 rfl (lv_at hl 0 rfl) ?_
  refine lv_iload_n hX_ hB_ dX0_same_1 rfl (lv_at hl 1 rfl) ?_
  refine sd_callVi (y := yX0_kindOf) (by_ := cX0_kindOf) E hW hA [.int (nI v)] rfl rfl (m_kindOf l D d h S hI (v := v) _) (cwV 1 hts (lw_V q102 q104 qs1 q14 q105) rfl rfl rfl (by decide +kernel) ⟨Nat.le_of_ble_eq_true rfl, Nat.le_of_ble_eq_true rfl⟩) rfl (fun _ => rfl) hl.1 rfl (Nat.le_of_ble_eq_true rfl) dX0_same_2 ⟨Nat.zero_le _, Nat.zero_le _⟩ (fun r u H locs hw hW => ?_)
  obtain ⟨rfl, hQ, -⟩ := hw
  obtain ⟨⟨⟨hn1, hn2, hg⟩, e0, e1, e2, e3⟩, r3, ⟨k6, kl, ks, kt, l7, lF, ke⟩⟩ := id hQ
  refine lv_aload_n hX_ hB_ dX0_same_5 rfl (lv_at hl 0 rfl) ?_
  refine lv_iload_n hX_ hB_ dX0_same_6 rfl (lv_at hl 2 rfl) ?_
  refine sd_callVi (y := yX0_kindOf) (by_ := cX0_kindOf) E hW hA [.int (nI a)] rfl rfl (m_kindOf l D d h u hQ.i (v := a) _) (cwV 1 hts (lw_V q102 q104 qs1 q14 q105) rfl rfl rfl (by decide +kernel) ⟨Nat.le_of_ble_eq_true rfl, Nat.le_of_ble_eq_true rfl⟩) rfl (fun _ => rfl) hl.1 rfl (Nat.le_of_ble_eq_true rfl) dX0_same_7 ⟨Nat.zero_le _, Nat.zero_le _⟩ (fun r u2 H locs hw hW => ?_)
  obtain ⟨rfl, -, hu⟩ := hw
  have hu := hu r3
  rw [hu] at hW ⊢
  have hv1 : v % 2147483648 % n < n := Nat.mod_lt _ (by omega)
  have hv2 : a % 2147483648 % n < n := Nat.mod_lt _ (by omega)
  have q1 := kl _ hv1
  have q2 := kl _ hv2
  refine sd_icmp_ne (tgt := 17) hX_ hB_ dX0_same_10 (by decide) (by omega) (by omega) (fun c1 => ?_) (fun c1 => ?_)
  · skip
    refine lv_iconst (v := nI 0) hX_ hB_ dX0_same_17 (by decide) ?_
    refine sd_zret (by decide) E hr hlk u hW ⟨?_, hQ⟩ dX0_same_18
    rw [if_neg]
    exact fun z => c1 ((ke _ _ hv1 hv2).mpr (dm_b_t.mp z))
  · skip
    refine lv_iconst (v := nI 1) hX_ hB_ dX0_same_13 (by decide) ?_
    refine lv_goto (tgt := 18) hX_ hB_ dX0_same_14 (by decide) ?_
    refine sd_zret (by decide) E hr hlk u hW ⟨?_, hQ⟩ dX0_same_18
    rw [if_pos]
    exact dm_b_t.mpr ((ke _ _ hv1 hv2).mp c1)

set_option maxHeartbeats 4000000 in
set_option maxRecDepth 100000 in
/-- kinds -/
theorem m_Xkinds (l : Launch) (D : va_G) (d : Nat → ClassId) (h : Nat → Nat) (S : Nat → Nat → Nat) {n : Nat} {g : Nat → Nat} {F : Nat → Bool} (hI : sd_XI n g F S) (sz : Nat) : Met l yX0_kinds (ws_ yX0_kinds cX0_kinds 1 (some .int)) (sd_rm 4) (va_Pc [.ref (h 0)] (sd_P D d (sd_wX h d S) sz)) (sd_Qi D (fun (r : Int32) (u : Nat → Nat → Nat) => r = nI (dm_cnt (fun p => dm_b (∀ q, q < p → ¬ dm_eq g F p q)) n) ∧ sd_XQ n g F u) (fun u => sd_wX h d u) (va_A (sd_wX h d S) sz)) 0 0 (va_A (sd_wX h d S) sz) := by
  refine sd_ofW (Qc := sd_Qi D (fun (r : Int32) (u : Nat → Nat → Nat) => r = nI (dm_cnt (fun p => dm_b (∀ q, q < p → ¬ dm_eq g F p q)) n) ∧ sd_XQ n g F u) (fun u => sd_wX h d u)) (own := RX0) (by decide) rfl (Nat.le_of_ble_eq_true rfl) ?_
  intro p e s m below meth c ls A E hr hlk hnm hA hW hl
  have hX_ := E.1.1
  have hB_ := E.1.2.1
  have hown := E.1.2.2.2.1
  have hts := E.1.2.2.2.2
  have hl : lv_has ls 1 [(0, .ref (h 0))] := hl
  refine lv_aload_n hX_ hB_ dX0_kinds_0 rfl (lv_at hl 0 rfl) ?_
  refine sd_callVv (y := yX0_reckon) (by_ := cX0_reckon) E hW hA [] rfl rfl (m_reckon l D d h S hI _) (cwV 0 hts (lw_V q106 q108 qs2 q14 q109) rfl rfl rfl (by decide +kernel) ⟨Nat.le_of_ble_eq_true rfl, Nat.le_of_ble_eq_true rfl⟩) rfl (fun _ => rfl) hl.1 rfl (Nat.le_of_ble_eq_true rfl) dX0_kinds_1 ⟨Nat.zero_le _, Nat.zero_le _⟩ (fun u H locs hw hW => ?_)
  obtain ⟨hQ, hu⟩ := hw
  refine lv_aload_n hX_ hB_ dX0_kinds_4 rfl (lv_at hl 0 rfl) ?_
  refine sd_getX E hW 6 (v := .int (nI (u 0 6))) (by decide) rfl q33 dX0_kinds_5 ?_
  refine sd_iret E hr hlk u hW ⟨?_, hQ⟩ dX0_kinds_8
  rw [sd_kinds_cnt hQ.2.2]

set_option maxHeartbeats 4000000 in
set_option maxRecDepth 100000 in
/-- needed -/
theorem m_Xneeded (l : Launch) (D : va_G) (d : Nat → ClassId) (h : Nat → Nat) (S : Nat → Nat → Nat) {n : Nat} {g : Nat → Nat} {F : Nat → Bool} (hI : sd_XI n g F S) {v : Nat} (sz : Nat) : Met l yX0_needed (ws_ yX0_needed cX0_needed 5 (some .int)) (sd_rm 4) (va_Pc [.ref (h 0), .int (nI v)] (sd_P D d (sd_wX h d S) sz)) (sd_Qi D (fun (r : Int32) (u : Nat → Nat → Nat) => r = nI (dm_cnt (fun p => dm_b (dm_re g (v % 2147483648 % n) p ∧ ∀ q, q < p → dm_re g (v % 2147483648 % n) q → ¬ dm_eq g F p q)) n) ∧ sd_XQ n g F u) (fun u => sd_wX h d u) (va_A (sd_wX h d S) sz)) 0 0 (va_A (sd_wX h d S) sz) := by
  refine sd_ofW (Qc := sd_Qi D (fun (r : Int32) (u : Nat → Nat → Nat) => r = nI (dm_cnt (fun p => dm_b (dm_re g (v % 2147483648 % n) p ∧ ∀ q, q < p → dm_re g (v % 2147483648 % n) q → ¬ dm_eq g F p q)) n) ∧ sd_XQ n g F u) (fun u => sd_wX h d u)) (own := RX0) (by decide) rfl (Nat.le_of_ble_eq_true rfl) ?_
  intro p e s m below meth c ls A E hr hlk hnm hA hW hl
  have hX_ := E.1.1
  have hB_ := E.1.2.1
  have hown := E.1.2.2.2.1
  have hts := E.1.2.2.2.2
  have hl : lv_has ls 5 [(0, .ref (h 0)), (1, .int (nI v))] := hl
  refine lv_iconst (v := nI 1) hX_ hB_ dX0_needed_0 (by decide) ?_
  refine lv_aload_n hX_ hB_ dX0_needed_1 rfl (lv_at hl 0 rfl) ?_
  refine lv_iload_n hX_ hB_ dX0_needed_2 rfl (lv_at hl 1 rfl) ?_
  refine sd_callVi (y := yX0_kindOf) (by_ := cX0_kindOf) E hW hA [.int (nI v)] rfl rfl (m_kindOf l D d h S hI (v := v) _) (cwV 1 hts (lw_V q102 q104 qs1 q14 q105) rfl rfl rfl (by decide +kernel) ⟨Nat.le_of_ble_eq_true rfl, Nat.le_of_ble_eq_true rfl⟩) rfl (fun _ => rfl) hl.1 rfl (Nat.le_of_ble_eq_true rfl) dX0_needed_3 ⟨Nat.zero_le _, Nat.zero_le _⟩ (fun r u H locs hw hW => ?_)
  obtain ⟨rfl, hQ, -⟩ := hw
  obtain ⟨⟨⟨hn1, hn2, hg⟩, e0, e1, e2, e3⟩, r3, ⟨k6, kl, ks, kt, l7, lF, ke⟩⟩ := id hQ
  obtain ⟨s0, es⟩ : ∃ s0, s0 = v % 2147483648 % n := ⟨_, rfl⟩
  have hs : s0 < n := by rw [es]; exact Nat.mod_lt _ (by omega)
  rw [← es]
  have hks := kl _ hs
  refine sd_ishl1 hX_ hB_ dX0_needed_6 (by omega) ?_
  refine lv_istore_n (lv' := [(2, .int (nI (2 ^ (u 2 s0)))), (0, .ref (h 0)), (1, .int (nI v))]) hX_ hB_ dX0_needed_7 rfl hl (by decide) rfl (fun ls hl => ?_)
  refine lv_iconst (v := nI 0) hX_ hB_ dX0_needed_8 (by decide) ?_
  refine lv_istore_n (lv' := [(3, .int (nI 0)), (2, .int (nI (2 ^ (u 2 s0)))), (0, .ref (h 0)), (1, .int (nI v))]) hX_ hB_ dX0_needed_9 rfl hl (by decide) rfl (fun ls hl => ?_)
  refine sd_loop2 (fun nn (M : Nat) (L0 : Nat) H locs ls => nn = 65536 - L0 ∧ (M < 2 ^ 16) ∧ (L0 ≤ M) ∧ (∀ k, M.testBit k = true → ∃ p, p < n ∧ dm_re g s0 p ∧ u 2 p = k) ∧ (M.testBit (u 2 s0) = true) ∧ (∀ p, p < n → L0.testBit (u 2 p) = true → M.testBit (u 2 (g (2 * p))) = true ∧ M.testBit (u 2 (g (2 * p + 1))) = true) ∧ sd_W D A s.heap (sd_wX h d u) H locs ∧ lv_has ls 5 [(0, .ref (h 0)), (2, .int (nI M)), (3, .int (nI L0))]) (fun nn M L0 H locs ls hI ih1 => ?_) _ (2 ^ u 2 s0) 0 _ _ _ ⟨rfl, Nat.pow_lt_pow_right (by decide) (by omega), Nat.zero_le _, (fun k hk => by rw [Nat.testBit_two_pow, decide_eq_true_eq] at hk; exact ⟨s0, hs, dm_re_rf g s0, hk⟩), (by rw [Nat.testBit_two_pow]; simp), (fun p _ hp => by rw [Nat.zero_testBit] at hp; cases hp), hW, lv_sub hl [2, 1, 0] rfl⟩
  · skip
    obtain ⟨rfl, hM, hLM, hso, hs0, hcl, hW, hl⟩ := hI
    refine lv_iload_n hX_ hB_ dX0_needed_10 rfl (lv_at hl 1 rfl) ?_
    refine lv_iload_n hX_ hB_ dX0_needed_11 rfl (lv_at hl 2 rfl) ?_
    refine sd_icmp_eq (tgt := 78) hX_ hB_ dX0_needed_12 (by decide) (by omega) (by omega) (fun c1 => ?_) (fun c1 => ?_)
    · skip
      refine lv_iload_n hX_ hB_ dX0_needed_78 rfl (lv_at hl 1 rfl) ?_
      refine sd_callSi (y := yJ1_bitCount) (by_ := cJ1_bitCount) E hW hA [.int (nI M)] (m_bitCount l D d (sd_wX h d u) (v := M) (by omega) _) (va_cwS 1 hts (lw_S q110 q111 q17 q112) rfl rfl rfl (by decide +kernel) ⟨Nat.le_of_ble_eq_true rfl, Nat.le_of_ble_eq_true rfl⟩) rfl (fun _ => rfl) hl.1 rfl (Nat.le_of_ble_eq_true rfl) dX0_needed_79 ⟨Nat.zero_le _, Nat.zero_le _⟩ (fun r x_ H locs hw hW => ?_)
      subst hw
      refine sd_iret E hr hlk u hW ⟨?_, hQ⟩ dX0_needed_82
      rw [sd_needed_cnt (s0 := s0) hQ.2.2 (M := M) ?_, es]
      intro k
      refine ⟨hso k, ?_⟩
      rintro ⟨p, hp, hre, rfl⟩
      refine (dm_re_in (fun p => p < n ∧ M.testBit (u 2 p) = true) ⟨hs, hs0⟩ (fun p x hpp hx => ?_) hre).2
      have g1 := hg (2 * p + x) (by omega)
      refine ⟨g1, ?_⟩
      have h1 := hcl p hpp.1 (by rw [← c1]; exact hpp.2)
      rcases (show x = 0 ∨ x = 1 by omega) with rfl | rfl
      · exact h1.1
      · exact h1.2
    · skip
      refine lv_iload_n hX_ hB_ dX0_needed_15 rfl (lv_at hl 1 rfl) ?_
      refine lv_istore_n (lv' := [(3, .int (nI M)), (0, .ref (h 0)), (2, .int (nI M))]) hX_ hB_ dX0_needed_16 rfl hl (by decide) rfl (fun ls hl => ?_)
      refine lv_iconst (v := nI 0) hX_ hB_ dX0_needed_17 (by decide) ?_
      refine lv_istore (lv' := [(4, .int (nI 0)), (3, .int (nI M)), (0, .ref (h 0)), (2, .int (nI M))]) hX_ hB_ dX0_needed_18 hl (by decide) rfl (fun ls hl => ?_)
      refine sd_loop2 (fun nn (k : Nat) (N : Nat) H locs ls => nn = 16 - k ∧ (k ≤ u 0 6) ∧ (N < 2 ^ 16) ∧ (M ≤ N) ∧ (∀ j, M.testBit j = true → N.testBit j = true) ∧ (∀ k, N.testBit k = true → ∃ p, p < n ∧ dm_re g s0 p ∧ u 2 p = k) ∧ (∀ p, p < n → u 2 p < k → M.testBit (u 2 p) = true → N.testBit (u 2 (g (2 * p))) = true ∧ N.testBit (u 2 (g (2 * p + 1))) = true) ∧ sd_W D A s.heap (sd_wX h d u) H locs ∧ lv_has ls 5 [(0, .ref (h 0)), (2, .int (nI N)), (3, .int (nI M)), (4, .int (nI k))]) (fun nn k N H locs ls hI ih2 => ?_) _ 0 M _ _ _ ⟨rfl, Nat.zero_le _, hM, Nat.le_refl _, (fun _ z => z), hso, (fun p _ hp => absurd hp (Nat.not_lt_zero _)), hW, lv_sub hl [2, 3, 1, 0] rfl⟩
      · skip
        obtain ⟨rfl, hk, hN, hMN, hsub, hsN, hcN, hW, hl⟩ := hI
        refine lv_iload hX_ hB_ dX0_needed_20 (lv_at hl 3 rfl) ?_
        refine lv_aload_n hX_ hB_ dX0_needed_22 rfl (lv_at hl 0 rfl) ?_
        refine sd_getX E hW 6 (v := .int (nI (u 0 6))) (by decide) rfl q33 dX0_needed_23 ?_
        refine sd_icmp_ge (tgt := 75) hX_ hB_ dX0_needed_26 (by decide) (by omega) (by omega) (fun c2 => ?_) (fun c2 => ?_)
        · skip
          refine lv_goto (tgt := 10) hX_ hB_ dX0_needed_75 (by decide) ?_
          exact ih1 _ N M H locs ls (by omega) ⟨rfl, hN, hMN, hsN, hsub _ hs0, (fun p hp hb => hcN p hp (by have := kl p hp; omega) hb), hW, lv_sub hl [0, 1, 2] rfl⟩
        · skip
          refine lv_iload_n hX_ hB_ dX0_needed_29 rfl (lv_at hl 2 rfl) ?_
          refine lv_iload hX_ hB_ dX0_needed_30 (lv_at hl 3 rfl) ?_
          refine sd_ishr hX_ hB_ dX0_needed_32 (by omega) (by omega) ?_
          refine lv_iconst (v := nI 1) hX_ hB_ dX0_needed_33 (by decide) ?_
          refine sd_iandE (sd_and1 _) hX_ hB_ dX0_needed_34 ?_
          refine sd_if_ne (tgt := 41) hX_ hB_ dX0_needed_35 (by decide) (by omega) (fun c3 => ?_) (fun c3 => ?_)
          · skip
            obtain ⟨p0, hp0, hr0, ek⟩ := hso k (sd_tb1.mp (by omega))
            have g1 := hg (2 * p0) (by omega)
            have g2 := hg (2 * p0 + 1) (by omega)
            have t1 : u 3 (2 * k) = u 2 (g (2 * p0)) := by rw [← ek]; exact kt p0 0 hp0 (by decide)
            have t2 : u 3 (2 * k + 1) = u 2 (g (2 * p0 + 1)) := by rw [← ek]; exact kt p0 1 hp0 (by decide)
            have q1 := kl _ g1
            have q2 := kl _ g2
            refine lv_iload_n hX_ hB_ dX0_needed_41 rfl (lv_at hl 1 rfl) ?_
            refine lv_iconst (v := nI 1) hX_ hB_ dX0_needed_42 (by decide) ?_
            refine lv_aload_n hX_ hB_ dX0_needed_43 rfl (lv_at hl 0 rfl) ?_
            refine sd_getX E hW 5 (v := .ref (h 3)) (by decide) rfl q32 dX0_needed_44 ?_
            refine lv_iconst (v := nI 2) hX_ hB_ dX0_needed_47 (by decide) ?_
            refine lv_iload hX_ hB_ dX0_needed_48 (lv_at hl 3 rfl) ?_
            refine sd_imul hX_ hB_ dX0_needed_50 ?_
            refine sd_ald (f := u 3) E hW 3 rfl (by omega) (by decide) dX0_needed_51 ?_
            rw [t1]
            refine sd_ishl1 hX_ hB_ dX0_needed_52 (by omega) ?_
            refine lv_iconst (v := nI 1) hX_ hB_ dX0_needed_53 (by decide) ?_
            refine lv_aload_n hX_ hB_ dX0_needed_54 rfl (lv_at hl 0 rfl) ?_
            refine sd_getX E hW 5 (v := .ref (h 3)) (by decide) rfl q32 dX0_needed_55 ?_
            refine lv_iconst (v := nI 2) hX_ hB_ dX0_needed_58 (by decide) ?_
            refine lv_iload hX_ hB_ dX0_needed_59 (lv_at hl 3 rfl) ?_
            refine sd_imul hX_ hB_ dX0_needed_61 ?_
            refine lv_iconst (v := nI 1) hX_ hB_ dX0_needed_62 (by decide) ?_
            refine sd_iadd hX_ hB_ dX0_needed_63 ?_
            refine sd_ald (f := u 3) E hW 3 rfl (by omega) (by decide) dX0_needed_64 ?_
            rw [t2]
            refine sd_ishl1 hX_ hB_ dX0_needed_65 (by omega) ?_
            refine sd_ior hX_ hB_ dX0_needed_66 ?_
            refine sd_ior hX_ hB_ dX0_needed_67 ?_
            obtain ⟨X, hX⟩ : ∃ X, X = N ||| (2 ^ u 2 (g (2 * p0)) ||| 2 ^ u 2 (g (2 * p0 + 1))) := ⟨_, rfl⟩
            rw [← hX]
            have hXb : ∀ j, X.testBit j = (N.testBit j || (decide (u 2 (g (2 * p0)) = j) || decide (u 2 (g (2 * p0 + 1)) = j))) := fun j => by rw [hX, Nat.testBit_or, Nat.testBit_or, Nat.testBit_two_pow, Nat.testBit_two_pow]
            have hX16 : X < 2 ^ 16 := by rw [hX]; exact Nat.or_lt_two_pow hN (Nat.or_lt_two_pow (Nat.pow_lt_pow_right (by decide) (by omega)) (Nat.pow_lt_pow_right (by decide) (by omega)))
            have hNX : N ≤ X := by rw [hX]; exact Nat.left_le_or
            have hsX : ∀ j, N.testBit j = true → X.testBit j = true := fun j hj => by rw [hXb, hj]; rfl
            have hXs : ∀ j, X.testBit j = true → ∃ p, p < n ∧ dm_re g s0 p ∧ u 2 p = j := by
              intro j hj
              rw [hXb, Bool.or_eq_true, Bool.or_eq_true, decide_eq_true_eq, decide_eq_true_eq] at hj
              rcases hj with z | z | z
              · exact hsN j z
              · exact ⟨_, g1, dm_re_st hr0 (x := 0) (by decide), z⟩
              · exact ⟨_, g2, dm_re_st hr0 (x := 1) (by decide), z⟩
            refine lv_istore_n (lv' := [(2, .int (nI X)), (0, .ref (h 0)), (3, .int (nI M)), (4, .int (nI k))]) hX_ hB_ dX0_needed_68 rfl hl (by decide) rfl (fun ls hl => ?_)
            refine sd_iinc (lv' := [(4, .int (nI (k + 1))), (2, .int (nI X)), (0, .ref (h 0)), (3, .int (nI M))]) hX_ hB_ dX0_needed_69 hl (k := 3) rfl (by decide) rfl (fun ls hl => ?_)
            refine lv_goto (tgt := 20) hX_ hB_ dX0_needed_72 (by decide) ?_
            exact ih2 _ (k + 1) X H locs ls (by omega) ⟨rfl, by omega, hX16, by omega, (fun j hj => hsX j (hsub j hj)), hXs, (fun p hp hlt hb => by
              rcases (show u 2 p < k ∨ u 2 p = k by omega) with w | w
              · obtain ⟨z1, z2⟩ := hcN p hp w hb
                exact ⟨hsX _ z1, hsX _ z2⟩
              · have e1 : u 2 (g (2 * p)) = u 2 (g (2 * p0)) := by rw [← t1, ← w]; exact (kt p 0 hp (by decide)).symm
                have e2 : u 2 (g (2 * p + 1)) = u 2 (g (2 * p0 + 1)) := by rw [← t2, ← w]; exact (kt p 1 hp (by decide)).symm
                rw [e1, e2, hXb, hXb]
                simp), hW, lv_sub hl [2, 1, 3, 0] rfl⟩
          · skip
            refine lv_goto (tgt := 69) hX_ hB_ dX0_needed_38 (by decide) ?_
            refine sd_iinc (lv' := [(4, .int (nI (k + 1))), (0, .ref (h 0)), (2, .int (nI N)), (3, .int (nI M))]) hX_ hB_ dX0_needed_69 hl (k := 3) rfl (by decide) rfl (fun ls hl => ?_)
            refine lv_goto (tgt := 20) hX_ hB_ dX0_needed_72 (by decide) ?_
            exact ih2 _ (k + 1) N H locs ls (by omega) ⟨rfl, by omega, hN, hMN, hsub, hsN, (fun p hp hlt hb => by
              rcases (show u 2 p < k ∨ u 2 p = k by omega) with w | w
              · exact hcN p hp w hb
              · rw [w] at hb
                rw [sd_tb0.mp c3] at hb
                cases hb), hW, lv_sub hl [1, 2, 3, 0] rfl⟩
end
section
/-! pairs of kinds, in the order of the words that lead to them -/
def sd_pr (g K : Nat → Nat) (p1 q1 c : Nat) : Nat := 16 * K (dm_run g p1 c) + K (dm_run g q1 c)
def sd_bf (g K : Nat → Nat) (F : Nat → Bool) (p1 q1 : Nat) (T : Nat → Nat → Nat) (N k y : Nat) : Prop :=
  (1 ≤ N ∧ N ≤ 256 ∧ T 7 0 = 1) ∧ (∀ i j, i < j → j < N → T 7 i < T 7 j) ∧ (∀ j, j < N → T 6 j = sd_pr g K p1 q1 (T 7 j)) ∧ (∀ x, x < 256 → T 8 x < 2 ∧ (T 8 x = 1 ↔ ∃ j, j < N ∧ T 6 j = x)) ∧ (∀ i j, i < N → j < N → T 6 i = T 6 j → i = j) ∧
  (∀ j x, x < 2 → (j < k ∨ (j = k ∧ x < y)) → ∃ i, i < N ∧ T 6 i = sd_pr g K p1 q1 (2 * T 7 j + x) ∧ T 7 i ≤ 2 * T 7 j + x) ∧ (∀ j, j < k → F (dm_run g p1 (T 7 j)) = F (dm_run g q1 (T 7 j))) ∧ (k < N → ∀ j, j < N → T 7 j < 2 * T 7 k + y)
section
variable {n : Nat} {g : Nat → Nat} {F : Nat → Bool} {u T : Nat → Nat → Nat} {p1 q1 N k y : Nat}
theorem sd_bf_ge (h : sd_bf g (u 2) F p1 q1 T N k y) {j : Nat} (hj : j < N) : 1 ≤ T 7 j := by
  by_cases z : j = 0
  · rw [z, h.1.2.2]; exact Nat.le_refl 1
  · have := h.2.1 0 j (by omega) hj
    omega
/-- equal pairs lead to equal pairs, and are of one colour -/
theorem sd_pr_eq (hm : sd_mch n g) (hq : sd_quo n g F u) (hp : p1 < n) (hq1 : q1 < n) {c c2 : Nat} (hc : 1 ≤ c) (hc2 : 1 ≤ c2) (e : sd_pr g (u 2) p1 q1 c = sd_pr g (u 2) p1 q1 c2) : F (dm_run g p1 c) = F (dm_run g p1 c2) ∧ F (dm_run g q1 c) = F (dm_run g q1 c2) ∧ ∀ x, x < 2 → sd_pr g (u 2) p1 q1 (2 * c + x) = sd_pr g (u 2) p1 q1 (2 * c2 + x) := by
  obtain ⟨k6, kl, ks, kt, l7, lF, ke⟩ := hq
  have h16 := hm.2.1
  have hgg : ∀ p x, p < n → x < 2 → g (2 * p + x) < n := fun p x h1 h2 => hm.2.2 _ (by omega)
  have a1 := dm_run_lt hgg hp c hc
  have a2 := dm_run_lt hgg hp c2 hc2
  have b1 := dm_run_lt hgg hq1 c hc
  have b2 := dm_run_lt hgg hq1 c2 hc2
  have r1 := kl _ a1
  have r2 := kl _ a2
  have r3 := kl _ b1
  have r4 := kl _ b2
  unfold sd_pr at e
  have e1 : u 2 (dm_run g p1 c) = u 2 (dm_run g p1 c2) := by omega
  have e2 : u 2 (dm_run g q1 c) = u 2 (dm_run g q1 c2) := by omega
  refine ⟨by rw [← lF _ a1, ← lF _ a2, e1], by rw [← lF _ b1, ← lF _ b2, e2], fun x hx => ?_⟩
  unfold sd_pr
  rw [dm_run_s g p1 hc hx, dm_run_s g p1 hc2 hx, dm_run_s g q1 hc hx, dm_run_s g q1 hc2 hx, ← kt _ x a1 hx, ← kt _ x a2 hx, ← kt _ x b1 hx, ← kt _ x b2 hx, e1, e2]
/-- all were met: no word tells them apart -/
theorem sd_bf_none (hm : sd_mch n g) (hq : sd_quo n g F u) (hp : p1 < n) (hq1 : q1 < n) (h : sd_bf g (u 2) F p1 q1 T N N 0) : dm_eq g F p1 q1 := by
  have hge := fun {j : Nat} (hj : j < N) => sd_bf_ge h hj
  obtain ⟨⟨n1, n2, n3⟩, i1, i2, i3, i4, i5, i6, i7⟩ := h
  have key : ∀ c, 1 ≤ c → ∃ j, j < N ∧ T 6 j = sd_pr g (u 2) p1 q1 c := by
    intro c
    induction c using Nat.strongRecOn with
    | _ c ih =>
      intro hc
      by_cases h1 : c = 1
      · subst h1
        exact ⟨0, by omega, by rw [i2 0 (by omega), n3]⟩
      · obtain ⟨j, hj, e⟩ := ih (c / 2) (by omega) (by omega)
        rw [i2 j hj] at e
        have e2 := (sd_pr_eq hm hq hp hq1 (hge hj) (by omega) e).2.2 (c % 2) (Nat.mod_lt _ (by decide))
        obtain ⟨i, hi, e3, -⟩ := i5 j (c % 2) (Nat.mod_lt _ (by decide)) (Or.inl hj)
        exact ⟨i, hi, by rw [e3, e2, show 2 * (c / 2) + c % 2 = c by omega]⟩
  refine dm_eq_of (fun c hc => ?_)
  obtain ⟨j, hj, e⟩ := key c hc
  rw [i2 j hj] at e
  obtain ⟨z1, z2, -⟩ := sd_pr_eq hm hq hp hq1 (hge hj) hc e
  rw [← z1, ← z2]
  exact i6 j hj
/-- the first pair of two colours: its word is the least -/
theorem sd_bf_first (hm : sd_mch n g) (hq : sd_quo n g F u) (hp : p1 < n) (hq1 : q1 < n) (h : sd_bf g (u 2) F p1 q1 T N k 0) (hk : k < N) : ∀ c, 1 ≤ c → c < T 7 k → F (dm_run g p1 c) = F (dm_run g q1 c) := by
  have hge := fun {j : Nat} (hj : j < N) => sd_bf_ge h hj
  obtain ⟨⟨n1, n2, n3⟩, i1, i2, i3, i4, i5, i6, i7⟩ := h
  have key : ∀ c, 1 ≤ c → c < T 7 k → ∃ j, j < k ∧ T 6 j = sd_pr g (u 2) p1 q1 c ∧ T 7 j ≤ c := by
    intro c
    induction c using Nat.strongRecOn with
    | _ c ih =>
      intro hc hlt
      by_cases h1 : c = 1
      · subst h1
        have hk0 : k ≠ 0 := fun z => by rw [z, n3] at hlt; omega
        exact ⟨0, by omega, by rw [i2 0 (by omega), n3], by omega⟩
      · obtain ⟨j, hj, e, hle⟩ := ih (c / 2) (by omega) (by omega) (by omega)
        rw [i2 j (by omega)] at e
        have e2 := (sd_pr_eq hm hq hp hq1 (hge (by omega : j < N)) (by omega) e).2.2 (c % 2) (Nat.mod_lt _ (by decide))
        obtain ⟨i, hi, e3, hle2⟩ := i5 j (c % 2) (Nat.mod_lt _ (by decide)) (Or.inl hj)
        refine ⟨i, ?_, by rw [e3, e2, show 2 * (c / 2) + c % 2 = c by omega], by omega⟩
        apply Classical.byContradiction
        intro hik
        rcases (show i = k ∨ k < i by omega) with w | w
        · subst w; omega
        · have := i1 k i w hi
          omega
  intro c hc hlt
  obtain ⟨j, hj, e, -⟩ := key c hc hlt
  rw [i2 j (by omega)] at e
  obtain ⟨z1, z2, -⟩ := sd_pr_eq hm hq hp hq1 (hge (by omega : j < N)) hc e
  rw [← z1, ← z2]
  exact i6 j hj
/-- the letter leads to a pair that was met -/
theorem sd_bf_met (h : sd_bf g (u 2) F p1 q1 T N k y) (hk : k < N) (hy : y < 2) (hx : sd_pr g (u 2) p1 q1 (2 * T 7 k + y) < 256) (hmet : T 8 (sd_pr g (u 2) p1 q1 (2 * T 7 k + y)) = 1) : sd_bf g (u 2) F p1 q1 T N k (y + 1) := by
  obtain ⟨n0, i1, i2, i3, i4, i5, i6, i7⟩ := h
  refine ⟨n0, i1, i2, i3, i4, fun j x hx2 hj => ?_, i6, fun _ j hj => by have := i7 hk j hj; omega⟩
  by_cases z : j = k ∧ x = y
  · obtain ⟨rfl, rfl⟩ := z
    obtain ⟨i, hi, e⟩ := (i3 _ hx).2.mp hmet
    exact ⟨i, hi, e, Nat.le_of_lt (i7 hk i hi)⟩
  · exact i5 j x hx2 (by omega)
/-- a pair that wasn't met comes at the end -/
theorem sd_bf_push {U : Nat → Nat → Nat} (h : sd_bf g (u 2) F p1 q1 T N k y) (hk : k < N) (hy : y < 2) (hx : sd_pr g (u 2) p1 q1 (2 * T 7 k + y) < 256) (h6 : ∀ j, j < N → T 6 j < 256) (hmet : T 8 (sd_pr g (u 2) p1 q1 (2 * T 7 k + y)) = 0)
    (e6 : ∀ j, U 6 j = if j = N then sd_pr g (u 2) p1 q1 (2 * T 7 k + y) else T 6 j) (e7 : ∀ j, U 7 j = if j = N then 2 * T 7 k + y else T 7 j) (e8 : ∀ j, U 8 j = if j = sd_pr g (u 2) p1 q1 (2 * T 7 k + y) then 1 else T 8 j) : N < 256 ∧ sd_bf g (u 2) F p1 q1 U (N + 1) k (y + 1) := by
  obtain ⟨⟨n1, n2, n3⟩, i1, i2, i3, i4, i5, i6, i7⟩ := h
  generalize hX : sd_pr g (u 2) p1 q1 (2 * T 7 k + y) = X at *
  have hnew : ∀ j, j < N → T 6 j ≠ X := fun j hj e => by
    have := (i3 X hx).2.mpr ⟨j, hj, e⟩
    omega
  have l6 : ∀ j, j < N → U 6 j = T 6 j := fun j hj => by rw [e6, if_neg (by omega)]
  have l7 : ∀ j, j < N → U 7 j = T 7 j := fun j hj => by rw [e7, if_neg (by omega)]
  have a6 : U 6 N = X := by rw [e6, if_pos rfl]
  have a7 : U 7 N = 2 * T 7 k + y := by rw [e7, if_pos rfl]
  have hN : N + 1 ≤ 256 := by
    refine dm_pig (f := U 6) (fun j hj => ?_) (fun i j hi hj e => ?_)
    · rcases (show j < N ∨ j = N by omega) with w | w
      · rw [l6 j w]; exact h6 j w
      · rw [w, a6]; exact hx
    · rcases (show i < N ∨ i = N by omega) with w | w <;> rcases (show j < N ∨ j = N by omega) with w2 | w2
      · rw [l6 i w, l6 j w2] at e; exact i4 i j w w2 e
      · rw [l6 i w, w2, a6] at e; exact absurd e (hnew i w)
      · rw [l6 j w2, w, a6] at e; exact absurd e.symm (hnew j w2)
      · omega
  refine ⟨by omega, ⟨by omega, hN, by rw [l7 0 (by omega)]; exact n3⟩, fun i j hij hj => ?_, fun j hj => ?_, fun x hx2 => ?_, fun i j hi hj e => ?_, fun j x hx2 hj => ?_, fun j hj => ?_, fun _ j hj => ?_⟩
  · rcases (show j < N ∨ j = N by omega) with w | w
    · rw [l7 i (by omega), l7 j w]; exact i1 i j hij w
    · rw [w, a7, l7 i (by omega)]; exact i7 hk i (by omega)
  · rcases (show j < N ∨ j = N by omega) with w | w
    · rw [l6 j w, l7 j w]; exact i2 j w
    · rw [w, a6, a7]; exact hX.symm
  · rw [e8]
    by_cases w : x = X
    · rw [if_pos w]
      exact ⟨by omega, fun _ => ⟨N, by omega, by rw [a6, w]⟩, fun _ => rfl⟩
    · rw [if_neg w]
      refine ⟨(i3 x hx2).1, fun z => ?_, fun z => ?_⟩
      · obtain ⟨j, hj, e⟩ := (i3 x hx2).2.mp z
        exact ⟨j, by omega, by rw [l6 j hj]; exact e⟩
      · obtain ⟨j, hj, e⟩ := z
        rcases (show j < N ∨ j = N by omega) with w2 | w2
        · rw [l6 j w2] at e
          exact (i3 x hx2).2.mpr ⟨j, w2, e⟩
        · rw [w2, a6] at e; exact absurd e.symm w
  · rcases (show i < N ∨ i = N by omega) with w | w <;> rcases (show j < N ∨ j = N by omega) with w2 | w2
    · rw [l6 i w, l6 j w2] at e; exact i4 i j w w2 e
    · rw [l6 i w, w2, a6] at e; exact absurd e (hnew i w)
    · rw [l6 j w2, w, a6] at e; exact absurd e.symm (hnew j w2)
    · omega
  · rw [l7 j (by omega)]
    by_cases z : j = k ∧ x = y
    · obtain ⟨rfl, rfl⟩ := z
      exact ⟨N, by omega, by rw [a6]; exact hX.symm, by rw [a7]; exact Nat.le_refl _⟩
    · obtain ⟨i, hi, e, hle⟩ := i5 j x hx2 (by omega)
      exact ⟨i, by omega, by rw [l6 i hi]; exact e, by rw [l7 i hi]; exact hle⟩
  · rw [l7 j (by omega)]; exact i6 j hj
  · rw [l7 k hk]
    rcases (show j < N ∨ j = N by omega) with w | w
    · rw [l7 j w]; have := i7 hk j w; omega
    · rw [w, a7]; omega
theorem sd_bf_next (h : sd_bf g (u 2) F p1 q1 T N k 2) (hk : k < N) (hF : F (dm_run g p1 (T 7 k)) = F (dm_run g q1 (T 7 k))) : sd_bf g (u 2) F p1 q1 T N (k + 1) 0 := by
  obtain ⟨n0, i1, i2, i3, i4, i5, i6, i7⟩ := h
  refine ⟨n0, i1, i2, i3, i4, fun j x hx hj => i5 j x hx (by omega), fun j hj => ?_, fun hk2 j hj => ?_⟩
  · rcases (show j < k ∨ j = k by omega) with w | w
    · exact i6 j w
    · rw [w]; exact hF
  · have a := i7 hk j hj
    have b := i1 k (k + 1) (by omega) hk2
    omega
end

set_option maxHeartbeats 4000000 in
set_option maxRecDepth 100000 in
/-- witness -/
theorem m_Xwitness (l : Launch) (D : va_G) (d : Nat → ClassId) (h : Nat → Nat) (S : Nat → Nat → Nat) {n : Nat} {g : Nat → Nat} {F : Nat → Bool} (hI : sd_XI n g F S) {v a : Nat} (sz : Nat) : Met l yX0_witness (ws_ yX0_witness cX0_witness 11 (some .int)) (sd_rm 4) (va_Pc [.ref (h 0), .int (nI v), .int (nI a)] (sd_P D d (sd_wX h d S) sz)) (sd_Qi D (fun (r : Int32) (u : Nat → Nat → Nat) => (∃ z, r = nI z ∧ dm_wi g F (v % 2147483648 % n) (a % 2147483648 % n) z) ∧ sd_XQ n g F u) (fun u => sd_wX h d u) (va_A (sd_wX h d S) sz)) 0 0 (va_A (sd_wX h d S) sz) := by
  refine sd_ofW (Qc := sd_Qi D (fun (r : Int32) (u : Nat → Nat → Nat) => (∃ z, r = nI z ∧ dm_wi g F (v % 2147483648 % n) (a % 2147483648 % n) z) ∧ sd_XQ n g F u) (fun u => sd_wX h d u)) (own := RX0) (by decide) rfl (Nat.le_of_ble_eq_true rfl) ?_
  intro p e s m below meth c ls A E hr hlk hnm hA hW hl
  have hX_ := E.1.1
  have hB_ := E.1.2.1
  have hown := E.1.2.2.2.1
  have hts := E.1.2.2.2.2
  have hl : lv_has ls 11 [(0, .ref (h 0)), (1, .int (nI v)), (2, .int (nI a))] := hl
  refine lv_aload_n hX_ hB_ dX0_witness_0 rfl (lv_at hl 0 rfl) ?_
  refine lv_iload_n hX_ hB_ dX0_witness_1 rfl (lv_at hl 1 rfl) ?_
  refine sd_callVi (y := yX0_kindOf) (by_ := cX0_kindOf) E hW hA [.int (nI v)] rfl rfl (m_kindOf l D d h S hI (v := v) _) (cwV 1 hts (lw_V q102 q104 qs1 q14 q105) rfl rfl rfl (by decide +kernel) ⟨Nat.le_of_ble_eq_true rfl, Nat.le_of_ble_eq_true rfl⟩) rfl (fun _ => rfl) hl.1 rfl (Nat.le_of_ble_eq_true rfl) dX0_witness_2 ⟨Nat.zero_le _, Nat.zero_le _⟩ (fun r u H locs hw hW => ?_)
  obtain ⟨rfl, hQ, -⟩ := hw
  obtain ⟨⟨⟨hn1, hn2, hg⟩, e0, e1, e2, e3⟩, r3, ⟨k6, kl, ks, kt, l7, lF, ke⟩⟩ := id hQ
  obtain ⟨p1, ep⟩ : ∃ p1, p1 = v % 2147483648 % n := ⟨_, rfl⟩
  have hp1 : p1 < n := by rw [ep]; exact Nat.mod_lt _ (by omega)
  obtain ⟨q1, eq⟩ : ∃ q1, q1 = a % 2147483648 % n := ⟨_, rfl⟩
  have hq1 : q1 < n := by rw [eq]; exact Nat.mod_lt _ (by omega)
  rw [← ep]
  refine lv_istore_n (lv' := [(3, .int (nI (u 2 p1))), (0, .ref (h 0)), (1, .int (nI v)), (2, .int (nI a))]) hX_ hB_ dX0_witness_5 rfl hl (by decide) rfl (fun ls hl => ?_)
  refine lv_aload_n hX_ hB_ dX0_witness_6 rfl (lv_at hl 1 rfl) ?_
  refine lv_iload_n hX_ hB_ dX0_witness_7 rfl (lv_at hl 3 rfl) ?_
  refine sd_callVi (y := yX0_kindOf) (by_ := cX0_kindOf) E hW hA [.int (nI a)] rfl rfl (m_kindOf l D d h u hQ.i (v := a) _) (cwV 1 hts (lw_V q102 q104 qs1 q14 q105) rfl rfl rfl (by decide +kernel) ⟨Nat.le_of_ble_eq_true rfl, Nat.le_of_ble_eq_true rfl⟩) rfl (fun _ => rfl) hl.1 rfl (Nat.le_of_ble_eq_true rfl) dX0_witness_8 ⟨Nat.zero_le _, Nat.zero_le _⟩ (fun r u2 H locs hw hW => ?_)
  obtain ⟨rfl, -, hu⟩ := hw
  have hu := hu r3
  rw [hu] at hW ⊢
  rw [← eq]
  have l1 := kl _ hp1
  have l2 := kl _ hq1
  refine lv_istore (lv' := [(4, .int (nI (u 2 q1))), (3, .int (nI (u 2 p1))), (0, .ref (h 0)), (1, .int (nI v)), (2, .int (nI a))]) hX_ hB_ dX0_witness_11 hl (by decide) rfl (fun ls hl => ?_)
  refine lv_iconst (v := nI 1) hX_ hB_ dX0_witness_13 (by decide) ?_
  refine lv_istore (lv' := [(5, .int (nI 1)), (4, .int (nI (u 2 q1))), (3, .int (nI (u 2 p1))), (0, .ref (h 0)), (1, .int (nI v)), (2, .int (nI a))]) hX_ hB_ dX0_witness_14 hl (by decide) rfl (fun ls hl => ?_)
  refine lv_iload_n hX_ hB_ dX0_witness_16 rfl (lv_at hl 2 rfl) ?_
  refine lv_iload hX_ hB_ dX0_witness_17 (lv_at hl 1 rfl) ?_
  refine sd_icmp_ne (tgt := 24) hX_ hB_ dX0_witness_19 (by decide) (by omega) (by omega) (fun c1 => ?_) (fun c1 => ?_)
  · skip
    refine lv_aload_n hX_ hB_ dX0_witness_24 rfl (lv_at hl 3 rfl) ?_
    refine sd_getX E hW 14 (v := .ref (h 8)) (by decide) rfl q41 dX0_witness_25 ?_
    refine lv_iconst (v := nI 0) hX_ hB_ dX0_witness_28 (by decide) ?_
    refine sd_callSv (y := yJ0_fill_2) (by_ := cJ0_fill_2) E hW hA [.ref (h 8), .int (nI 0)] (m_J0_fill_2 l D d (ws := sd_wX h d u) 8 (a := h 8) (N := 256) (f := u 8) (v := 0) rfl (by decide) (by decide) _) (va_cwS 2 hts (lw_S q156 q157 q16 q158) rfl rfl rfl (by decide +kernel) ⟨Nat.le_of_ble_eq_true rfl, Nat.le_of_ble_eq_true rfl⟩) rfl (fun _ => rfl) hl.1 rfl (Nat.le_of_ble_eq_true rfl) dX0_witness_29 ⟨Nat.zero_le _, Nat.zero_le _⟩ (fun _ H locs hw hW => ?_)
    have hW : sd_W D A s.heap (sd_wX h d (sd_fill u 8 256 0)) H locs := hW
    refine lv_aload_n hX_ hB_ dX0_witness_32 rfl (lv_at hl 3 rfl) ?_
    refine sd_getX E hW 12 (v := .ref (h 6)) (by decide) rfl q39 dX0_witness_33 ?_
    refine lv_iconst (v := nI 0) hX_ hB_ dX0_witness_36 (by decide) ?_
    refine lv_bipush (v := nI 16) hX_ hB_ dX0_witness_37 (by decide) ?_
    refine lv_iload_n hX_ hB_ dX0_witness_39 rfl (lv_at hl 2 rfl) ?_
    refine sd_imul hX_ hB_ dX0_witness_40 ?_
    refine lv_iload hX_ hB_ dX0_witness_41 (lv_at hl 1 rfl) ?_
    refine sd_iadd hX_ hB_ dX0_witness_43 ?_
    refine sd_astX E hW 6 (by decide) (show 0 < 256 by decide) dX0_witness_44 (fun H locs hW => ?_)
    refine lv_aload_n hX_ hB_ dX0_witness_45 rfl (lv_at hl 3 rfl) ?_
    refine sd_getX E hW 13 (v := .ref (h 7)) (by decide) rfl q40 dX0_witness_46 ?_
    refine lv_iconst (v := nI 0) hX_ hB_ dX0_witness_49 (by decide) ?_
    refine lv_iconst (v := nI 1) hX_ hB_ dX0_witness_50 (by decide) ?_
    refine sd_astX E hW 7 (by decide) (show 0 < 256 by decide) dX0_witness_51 (fun H locs hW => ?_)
    refine lv_aload_n hX_ hB_ dX0_witness_52 rfl (lv_at hl 3 rfl) ?_
    refine sd_getX E hW 14 (v := .ref (h 8)) (by decide) rfl q41 dX0_witness_53 ?_
    refine lv_aload_n hX_ hB_ dX0_witness_56 rfl (lv_at hl 3 rfl) ?_
    refine sd_getX E hW 12 (v := .ref (h 6)) (by decide) rfl q39 dX0_witness_57 ?_
    refine lv_iconst (v := nI 0) hX_ hB_ dX0_witness_60 (by decide) ?_
    refine sd_ald (f := (sd_up (sd_fill u 8 256 0) 6 0 ((16 * (u 2 p1)) + (u 2 q1))) 6) E hW 6 rfl (by omega) (by decide) dX0_witness_61 ?_
    rw [show (sd_up (sd_fill u 8 256 0) 6 0 ((16 * (u 2 p1)) + (u 2 q1))) 6 0 = 16 * u 2 p1 + u 2 q1 from rfl]
    refine lv_iconst (v := nI 1) hX_ hB_ dX0_witness_62 (by decide) ?_
    refine sd_zastX E hW (by omega) (show 16 * u 2 p1 + u 2 q1 < 256 by omega) dX0_witness_63 (fun H locs hW => ?_)
    refine lv_iconst (v := nI 0) hX_ hB_ dX0_witness_64 (by decide) ?_
    refine lv_istore (lv' := [(6, .int (nI 0)), (5, .int (nI 1)), (4, .int (nI (u 2 q1))), (3, .int (nI (u 2 p1))), (0, .ref (h 0)), (1, .int (nI v)), (2, .int (nI a))]) hX_ hB_ dX0_witness_65 hl (by decide) rfl (fun ls hl => ?_)
    obtain ⟨T, hT⟩ : ∃ T, T = (sd_up (sd_up (sd_up (sd_fill u 8 256 0) 6 0 ((16 * (u 2 p1)) + (u 2 q1))) 7 0 1) 8 (16 * u 2 p1 + u 2 q1) 1) := ⟨_, rfl⟩
    rw [← hT] at hW
    have tc : ∀ c, c ≠ 6 → c ≠ 7 → c ≠ 8 → T c = u c := fun c h6 h7 h8 => by
      rw [hT, sd_up_c _ _ _ h8, sd_up_c _ _ _ h7, sd_up_c _ _ _ h6]
      unfold sd_fill
      rw [if_neg h8]
    have hbf : sd_bf g (u 2) F p1 q1 T 1 0 0 := by
      have t6 : T 6 0 = 16 * u 2 p1 + u 2 q1 := by rw [hT]; rfl
      have t7 : T 7 0 = 1 := by rw [hT]; rfl
      have t8 : ∀ x, x < 256 → T 8 x = if x = 16 * u 2 p1 + u 2 q1 then 1 else 0 := by
        intro x hx
        rw [hT]
        show (if x = 16 * u 2 p1 + u 2 q1 then 1 else (if x < 256 then 0 else u 8 x)) = _
        rw [if_pos hx]
      refine ⟨⟨by omega, by omega, t7⟩, fun i j h1 h2 => by omega, fun j hj => ?_, fun x hx => ?_, fun i j h1 h2 _ => by omega, fun j x _ h2 => by omega, fun j hj => by omega, fun _ j hj => ?_⟩
      · have : j = 0 := by omega
        subst this
        rw [t6, t7]
        unfold sd_pr
        rw [dm_run_1, dm_run_1]
      · rw [t8 x hx]
        constructor
        · split <;> omega
        · constructor
          · intro z
            refine ⟨0, by omega, ?_⟩
            rw [t6]
            apply Classical.byContradiction
            intro w
            rw [if_neg (fun q => w q.symm)] at z
            omega
          · rintro ⟨j, hj, e⟩
            have : j = 0 := by omega
            subst this
            rw [if_pos (by rw [← e, t6])]
      · have : j = 0 := by omega
        subst this
        omega
    refine sd_loop3 (fun nn (k : Nat) (N : Nat) (T : Nat → Nat → Nat) H locs ls => nn = 256 - k ∧ (k ≤ N) ∧ (∀ c, c ≠ 6 → c ≠ 7 → c ≠ 8 → T c = u c) ∧ (sd_bf g (u 2) F p1 q1 T N k 0) ∧ sd_W D A s.heap (sd_wX h d T) H locs ∧ lv_has ls 11 [(0, .ref (h 0)), (5, .int (nI N)), (6, .int (nI k))]) (fun nn k N T H locs ls hI ih1 => ?_) _ 0 1 T _ _ _ ⟨rfl, Nat.zero_le _, tc, hbf, hW, lv_sub hl [4, 1, 0] rfl⟩
    · skip
      obtain ⟨rfl, hk, tc, hbf, hW, hl⟩ := hI
      have hN := hbf.1.2.1
      have hQT : sd_XQ n g F T := by
        have t0 : T 0 = u 0 := tc 0 (by decide) (by decide) (by decide)
        have t2 : T 2 = u 2 := tc 2 (by decide) (by decide) (by decide)
        have t3 : T 3 = u 3 := tc 3 (by decide) (by decide) (by decide)
        refine ⟨sd_XB_of hQ.1 (by rw [t0]) (by rw [t0]) (tc 1 (by decide) (by decide) (by decide)), by rw [t0]; exact r3, ?_⟩
        unfold sd_quo
        rw [t0, t2, t3]
        exact hQ.2.2
      refine lv_iload hX_ hB_ dX0_witness_67 (lv_at hl 2 rfl) ?_
      refine lv_iload hX_ hB_ dX0_witness_69 (lv_at hl 1 rfl) ?_
      refine sd_icmp_ge (tgt := 230) hX_ hB_ dX0_witness_71 (by decide) (by omega) (by omega) (fun c2 => ?_) (fun c2 => ?_)
      · skip
        refine lv_iconst (v := nI 0) hX_ hB_ dX0_witness_230 (by decide) ?_
        have ek : k = N := by omega
        subst ek
        exact sd_iret E hr hlk T hW ⟨⟨0, rfl, Or.inl ⟨rfl, by exact sd_bf_none hQ.1.1 hQ.2.2 hp1 hq1 hbf⟩⟩, hQT⟩ dX0_witness_231
      · skip
        obtain ⟨x, ex⟩ : ∃ x, x = dm_run g p1 (T 7 k) := ⟨_, rfl⟩
        obtain ⟨z, ez⟩ : ∃ z, z = dm_run g q1 (T 7 k) := ⟨_, rfl⟩
        have hgg : ∀ p x, p < n → x < 2 → g (2 * p + x) < n := fun p x h1 h2 => hg _ (by omega)
        have hw1 := sd_bf_ge hbf c2
        have hx : x < n := by rw [ex]; exact dm_run_lt hgg hp1 _ hw1
        have hz : z < n := by rw [ez]; exact dm_run_lt hgg hq1 _ hw1
        have hkx := kl _ hx
        have hkz := kl _ hz
        have e6 : T 6 k = 16 * u 2 x + u 2 z := by rw [hbf.2.2.1 k c2]; unfold sd_pr; rw [← ex, ← ez]
        have t07 : T 0 7 = u 0 7 := by rw [tc 0 (by decide) (by decide) (by decide)]
        refine lv_aload_n hX_ hB_ dX0_witness_74 rfl (lv_at hl 0 rfl) ?_
        refine sd_getX E hW 12 (v := .ref (h 6)) (by decide) rfl q39 dX0_witness_75 ?_
        refine lv_iload hX_ hB_ dX0_witness_78 (lv_at hl 2 rfl) ?_
        refine sd_ald (f := T 6) E hW 6 rfl (by omega) (by decide) dX0_witness_80 ?_
        rw [e6]
        refine lv_bipush (v := nI 16) hX_ hB_ dX0_witness_81 (by decide) ?_
        refine sd_idiv hX_ hB_ dX0_witness_83 (by omega) (by omega) (by omega) ?_
        refine sd_eqn (b := u 2 x) (by omega) ?_
        refine lv_istore (lv' := [(7, .int (nI (u 2 x))), (0, .ref (h 0)), (5, .int (nI N)), (6, .int (nI k))]) hX_ hB_ dX0_witness_84 hl (by decide) rfl (fun ls hl => ?_)
        refine lv_aload_n hX_ hB_ dX0_witness_86 rfl (lv_at hl 1 rfl) ?_
        refine sd_getX E hW 12 (v := .ref (h 6)) (by decide) rfl q39 dX0_witness_87 ?_
        refine lv_iload hX_ hB_ dX0_witness_90 (lv_at hl 3 rfl) ?_
        refine sd_ald (f := T 6) E hW 6 rfl (by omega) (by decide) dX0_witness_92 ?_
        rw [e6]
        refine lv_bipush (v := nI 16) hX_ hB_ dX0_witness_93 (by decide) ?_
        refine sd_irem hX_ hB_ dX0_witness_95 (by omega) (by omega) (by omega) ?_
        refine sd_eqn (b := u 2 z) (by omega) ?_
        refine lv_istore (lv' := [(8, .int (nI (u 2 z))), (7, .int (nI (u 2 x))), (0, .ref (h 0)), (5, .int (nI N)), (6, .int (nI k))]) hX_ hB_ dX0_witness_96 hl (by decide) rfl (fun ls hl => ?_)
        refine lv_aload_n hX_ hB_ dX0_witness_98 rfl (lv_at hl 2 rfl) ?_
        refine sd_getX E hW 7 (v := .int (nI (T 0 7))) (by decide) rfl q34 dX0_witness_99 ?_
        rw [t07]
        refine lv_iload hX_ hB_ dX0_witness_102 (lv_at hl 1 rfl) ?_
        refine sd_ishr hX_ hB_ dX0_witness_104 (by omega) (by omega) ?_
        refine lv_iconst (v := nI 1) hX_ hB_ dX0_witness_105 (by decide) ?_
        refine sd_iandE (sd_and1 _) hX_ hB_ dX0_witness_106 ?_
        refine lv_aload_n hX_ hB_ dX0_witness_107 rfl (lv_at hl 2 rfl) ?_
        refine sd_getX E hW 7 (v := .int (nI (T 0 7))) (by decide) rfl q34 dX0_witness_108 ?_
        rw [t07]
        refine lv_iload hX_ hB_ dX0_witness_111 (lv_at hl 0 rfl) ?_
        refine sd_ishr hX_ hB_ dX0_witness_113 (by omega) (by omega) ?_
        refine lv_iconst (v := nI 1) hX_ hB_ dX0_witness_114 (by decide) ?_
        refine sd_iandE (sd_and1 _) hX_ hB_ dX0_witness_115 ?_
        have hFx := lF x hx
        have hFz := lF z hz
        refine sd_icmp_eq (tgt := 127) hX_ hB_ dX0_witness_116 (by decide) (by omega) (by omega) (fun c3 => ?_) (fun c3 => ?_)
        · skip
          have hFe : F x = F z := by
            rw [← hFx, ← hFz, Nat.testBit_eq_decide_div_mod_eq, Nat.testBit_eq_decide_div_mod_eq, c3]
          refine lv_iconst (v := nI 0) hX_ hB_ dX0_witness_127 (by decide) ?_
          refine lv_istore (lv' := [(9, .int (nI 0)), (8, .int (nI (u 2 z))), (7, .int (nI (u 2 x))), (0, .ref (h 0)), (5, .int (nI N)), (6, .int (nI k))]) hX_ hB_ dX0_witness_128 hl (by decide) rfl (fun ls hl => ?_)
          refine sd_loop3 (fun nn (y : Nat) (N : Nat) (T : Nat → Nat → Nat) H locs ls => nn = 2 - y ∧ (y ≤ 2) ∧ (k < N) ∧ (∀ c, c ≠ 6 → c ≠ 7 → c ≠ 8 → T c = u c) ∧ (sd_bf g (u 2) F p1 q1 T N k y) ∧ (x = dm_run g p1 (T 7 k)) ∧ (z = dm_run g q1 (T 7 k)) ∧ sd_W D A s.heap (sd_wX h d T) H locs ∧ lv_has ls 11 [(0, .ref (h 0)), (5, .int (nI N)), (6, .int (nI k)), (7, .int (nI (u 2 x))), (8, .int (nI (u 2 z))), (9, .int (nI y))]) (fun nn y N T H locs ls hI ih2 => ?_) _ 0 N T _ _ _ ⟨rfl, Nat.zero_le _, c2, tc, hbf, ex, ez, hW, lv_sub hl [3, 4, 5, 2, 1, 0] rfl⟩
          · skip
            obtain ⟨rfl, hy, hkN, tc, hbf, ex, ez, hW, hl⟩ := hI
            have hN := hbf.1.2.1
            have t3 : T 3 = u 3 := tc 3 (by decide) (by decide) (by decide)
            have hw1 := sd_bf_ge hbf hkN
            refine lv_iload hX_ hB_ dX0_witness_130 (lv_at hl 5 rfl) ?_
            refine lv_iconst (v := nI 2) hX_ hB_ dX0_witness_132 (by decide) ?_
            refine sd_icmp_ge (tgt := 224) hX_ hB_ dX0_witness_133 (by decide) (by omega) (by omega) (fun c4 => ?_) (fun c4 => ?_)
            · skip
              refine sd_iinc (lv' := [(6, .int (nI (k + 1))), (0, .ref (h 0)), (5, .int (nI N)), (7, .int (nI (u 2 x))), (8, .int (nI (u 2 z))), (9, .int (nI y))]) hX_ hB_ dX0_witness_224 hl (k := 2) rfl (by decide) rfl (fun ls hl => ?_)
              refine lv_goto (tgt := 67) hX_ hB_ dX0_witness_227 (by decide) ?_
              have ey : y = 2 := by omega
              subst ey
              exact ih1 _ (k + 1) N T H locs ls (by omega) ⟨rfl, by omega, tc, sd_bf_next hbf hkN (by rw [← ex, ← ez]; exact hFe), hW, lv_sub hl [1, 2, 0] rfl⟩
            · skip
              have g1 := hgg x y hx (by omega)
              have g2 := hgg z y hz (by omega)
              have l3 := kl _ g1
              have l4 := kl _ g2
              have e1 : T 3 (2 * u 2 x + y) = u 2 (g (2 * x + y)) := by rw [t3]; exact kt x y hx (by omega)
              have e2 : T 3 (2 * u 2 z + y) = u 2 (g (2 * z + y)) := by rw [t3]; exact kt z y hz (by omega)
              have epr : sd_pr g (u 2) p1 q1 (2 * T 7 k + y) = 16 * u 2 (g (2 * x + y)) + u 2 (g (2 * z + y)) := by
                unfold sd_pr
                rw [dm_run_s g p1 hw1 (by omega), dm_run_s g q1 hw1 (by omega), ← ex, ← ez]
              refine lv_bipush (v := nI 16) hX_ hB_ dX0_witness_136 (by decide) ?_
              refine lv_aload_n hX_ hB_ dX0_witness_138 rfl (lv_at hl 0 rfl) ?_
              refine sd_getX E hW 5 (v := .ref (h 3)) (by decide) rfl q32 dX0_witness_139 ?_
              refine lv_iconst (v := nI 2) hX_ hB_ dX0_witness_142 (by decide) ?_
              refine lv_iload hX_ hB_ dX0_witness_143 (lv_at hl 3 rfl) ?_
              refine sd_imul hX_ hB_ dX0_witness_145 ?_
              refine lv_iload hX_ hB_ dX0_witness_146 (lv_at hl 5 rfl) ?_
              refine sd_iadd hX_ hB_ dX0_witness_148 ?_
              refine sd_ald (f := T 3) E hW 3 rfl (by omega) (by decide) dX0_witness_149 ?_
              rw [e1]
              refine sd_imul hX_ hB_ dX0_witness_150 ?_
              refine lv_aload_n hX_ hB_ dX0_witness_151 rfl (lv_at hl 0 rfl) ?_
              refine sd_getX E hW 5 (v := .ref (h 3)) (by decide) rfl q32 dX0_witness_152 ?_
              refine lv_iconst (v := nI 2) hX_ hB_ dX0_witness_155 (by decide) ?_
              refine lv_iload hX_ hB_ dX0_witness_156 (lv_at hl 4 rfl) ?_
              refine sd_imul hX_ hB_ dX0_witness_158 ?_
              refine lv_iload hX_ hB_ dX0_witness_159 (lv_at hl 5 rfl) ?_
              refine sd_iadd hX_ hB_ dX0_witness_161 ?_
              refine sd_ald (f := T 3) E hW 3 rfl (by omega) (by decide) dX0_witness_162 ?_
              rw [e2]
              refine sd_iadd hX_ hB_ dX0_witness_163 ?_
              obtain ⟨X, hX⟩ : ∃ X, X = 16 * u 2 (g (2 * x + y)) + u 2 (g (2 * z + y)) := ⟨_, rfl⟩
              rw [← hX] at epr ⊢
              have hX2 : X < 256 := by omega
              have h8 := (hbf.2.2.2.1 X hX2).1
              refine lv_istore (lv' := [(10, .int (nI X)), (0, .ref (h 0)), (5, .int (nI N)), (6, .int (nI k)), (7, .int (nI (u 2 x))), (8, .int (nI (u 2 z))), (9, .int (nI y))]) hX_ hB_ dX0_witness_164 hl (by decide) rfl (fun ls hl => ?_)
              refine lv_aload_n hX_ hB_ dX0_witness_166 rfl (lv_at hl 1 rfl) ?_
              refine sd_getX E hW 14 (v := .ref (h 8)) (by decide) rfl q41 dX0_witness_167 ?_
              refine lv_iload hX_ hB_ dX0_witness_170 (lv_at hl 0 rfl) ?_
              refine sd_zald (f := T 8) E hW 8 rfl (by omega) (by decide) dX0_witness_172 ?_
              refine sd_if_eq (tgt := 179) hX_ hB_ dX0_witness_173 (by decide) (by omega) (fun c5 => ?_) (fun c5 => ?_)
              · skip
                have h6 : ∀ j, j < N → T 6 j < 256 := by
                  intro j hj
                  have hwj := sd_bf_ge hbf hj
                  have s1 := kl _ (dm_run_lt hgg hp1 _ hwj)
                  have s2 := kl _ (dm_run_lt hgg hq1 _ hwj)
                  rw [hbf.2.2.1 j hj]
                  unfold sd_pr
                  omega
                have hpush := fun (U : Nat → Nat → Nat) e6 e7 e8 => sd_bf_push (U := U) hbf hkN (by omega : y < 2) (by rw [epr]; exact hX2) h6 (by rw [epr]; exact c5) e6 e7 e8
                have hN2 : N < 256 := (hpush (sd_up (sd_up (sd_up T 8 X 1) 6 N X) 7 N (2 * T 7 k + y)) (fun j => by rw [epr]; rfl) (fun j => rfl) (fun j => by rw [epr]; rfl)).1
                refine lv_aload_n hX_ hB_ dX0_witness_179 rfl (lv_at hl 1 rfl) ?_
                refine sd_getX E hW 14 (v := .ref (h 8)) (by decide) rfl q41 dX0_witness_180 ?_
                refine lv_iload hX_ hB_ dX0_witness_183 (lv_at hl 0 rfl) ?_
                refine lv_iconst (v := nI 1) hX_ hB_ dX0_witness_185 (by decide) ?_
                refine sd_zastX E hW (by omega) (show X < 256 by omega) dX0_witness_186 (fun H locs hW => ?_)
                refine lv_aload_n hX_ hB_ dX0_witness_187 rfl (lv_at hl 1 rfl) ?_
                refine sd_getX E hW 12 (v := .ref (h 6)) (by decide) rfl q39 dX0_witness_188 ?_
                refine lv_iload hX_ hB_ dX0_witness_191 (lv_at hl 2 rfl) ?_
                refine lv_iload hX_ hB_ dX0_witness_193 (lv_at hl 0 rfl) ?_
                refine sd_astX E hW 6 (by decide) (show N < 256 by omega) dX0_witness_195 (fun H locs hW => ?_)
                refine lv_aload_n hX_ hB_ dX0_witness_196 rfl (lv_at hl 1 rfl) ?_
                refine sd_getX E hW 13 (v := .ref (h 7)) (by decide) rfl q40 dX0_witness_197 ?_
                refine lv_iload hX_ hB_ dX0_witness_200 (lv_at hl 2 rfl) ?_
                refine lv_iconst (v := nI 2) hX_ hB_ dX0_witness_202 (by decide) ?_
                refine lv_aload_n hX_ hB_ dX0_witness_203 rfl (lv_at hl 1 rfl) ?_
                refine sd_getX E hW 13 (v := .ref (h 7)) (by decide) rfl q40 dX0_witness_204 ?_
                refine lv_iload hX_ hB_ dX0_witness_207 (lv_at hl 3 rfl) ?_
                refine sd_ald (f := T 7) E hW 7 rfl (by omega) (by decide) dX0_witness_209 ?_
                refine sd_imul hX_ hB_ dX0_witness_210 ?_
                refine lv_iload hX_ hB_ dX0_witness_211 (lv_at hl 6 rfl) ?_
                refine sd_iadd hX_ hB_ dX0_witness_213 ?_
                refine sd_astX E hW 7 (by decide) (show N < 256 by omega) dX0_witness_214 (fun H locs hW => ?_)
                refine sd_iinc (lv' := [(5, .int (nI (N + 1))), (10, .int (nI X)), (0, .ref (h 0)), (6, .int (nI k)), (7, .int (nI (u 2 x))), (8, .int (nI (u 2 z))), (9, .int (nI y))]) hX_ hB_ dX0_witness_215 hl (k := 2) rfl (by decide) rfl (fun ls hl => ?_)
                refine sd_iinc (lv' := [(9, .int (nI (y + 1))), (5, .int (nI (N + 1))), (10, .int (nI X)), (0, .ref (h 0)), (6, .int (nI k)), (7, .int (nI (u 2 x))), (8, .int (nI (u 2 z)))]) hX_ hB_ dX0_witness_218 hl (k := 6) rfl (by decide) rfl (fun ls hl => ?_)
                refine lv_goto (tgt := 130) hX_ hB_ dX0_witness_221 (by decide) ?_
                obtain ⟨U, hU⟩ : ∃ U, U = (sd_up (sd_up (sd_up T 8 X 1) 6 N X) 7 N ((2 * (T 7 k)) + y)) := ⟨_, rfl⟩
                rw [← hU] at hW
                have hb2 := (hpush U (fun j => by rw [epr, hU]; rfl) (fun j => by rw [hU]; rfl) (fun j => by rw [epr, hU]; rfl)).2
                have u7 : U 7 k = T 7 k := by rw [hU, sd_up_j _ _ (by omega), sd_up_c _ _ _ (by decide), sd_up_c _ _ _ (by decide)]
                exact ih2 _ (y + 1) (N + 1) U H locs ls (by omega) ⟨rfl, by omega, by omega, (fun c h6 h7 h8 => by rw [hU, sd_up_c _ _ _ h7, sd_up_c _ _ _ h6, sd_up_c _ _ _ h8]; exact tc c h6 h7 h8), hb2, (by rw [u7]; exact ex), (by rw [u7]; exact ez), hW, lv_sub hl [3, 1, 4, 5, 6, 0] rfl⟩
              · skip
                refine lv_goto (tgt := 218) hX_ hB_ dX0_witness_176 (by decide) ?_
                refine sd_iinc (lv' := [(9, .int (nI (y + 1))), (10, .int (nI X)), (0, .ref (h 0)), (5, .int (nI N)), (6, .int (nI k)), (7, .int (nI (u 2 x))), (8, .int (nI (u 2 z)))]) hX_ hB_ dX0_witness_218 hl (k := 6) rfl (by decide) rfl (fun ls hl => ?_)
                refine lv_goto (tgt := 130) hX_ hB_ dX0_witness_221 (by decide) ?_
                exact ih2 _ (y + 1) N T H locs ls (by omega) ⟨rfl, by omega, hkN, tc, sd_bf_met hbf hkN (by omega) (by rw [epr]; exact hX2) (by rw [epr]; omega), ex, ez, hW, lv_sub hl [2, 3, 4, 5, 6, 0] rfl⟩
        · skip
          refine lv_aload_n hX_ hB_ dX0_witness_119 rfl (lv_at hl 2 rfl) ?_
          refine sd_getX E hW 13 (v := .ref (h 7)) (by decide) rfl q40 dX0_witness_120 ?_
          refine lv_iload hX_ hB_ dX0_witness_123 (lv_at hl 4 rfl) ?_
          refine sd_ald (f := T 7) E hW 7 rfl (by omega) (by decide) dX0_witness_125 ?_
          refine sd_iret E hr hlk T hW ⟨⟨T 7 k, rfl, Or.inr ⟨hw1, ?_, ?_⟩⟩, hQT⟩ dX0_witness_126
          · rw [← ex, ← ez, ← hFx, ← hFz]
            intro w
            apply c3
            rw [Nat.testBit_eq_decide_div_mod_eq, Nat.testBit_eq_decide_div_mod_eq] at w
            have m1 : u 0 7 / 2 ^ u 2 x % 2 < 2 := Nat.mod_lt _ (by decide)
            have m2 : u 0 7 / 2 ^ u 2 z % 2 < 2 := Nat.mod_lt _ (by decide)
            have w2 := decide_eq_decide.mp w
            omega
          · exact sd_bf_first hQ.1.1 hQ.2.2 hp1 hq1 hbf c2
  · skip
    refine lv_iconst (v := nI 0) hX_ hB_ dX0_witness_22 (by decide) ?_
    exact sd_iret E hr hlk u hW ⟨⟨0, rfl, Or.inl ⟨rfl, (ke _ _ hp1 hq1).mp c1⟩⟩, hQ⟩ dX0_witness_23
end
section
/-- the first K places of 'next' copied to 'now' -/
def sd_cp (S : Nat → Nat → Nat) (K : Nat) : Nat → Nat → Nat := fun c' => if c' = 9 then (fun j => if j < K then S 10 j else S 9 j) else S c'
section
variable {p : Program} {l : Launch} {e : Env} {R : Room} {s : State} {m : MethodId} {args : Array Value} {below : List Frame} {meth : Method} {c : Code} {H : Heap} {locs : List Loc} {cells slots : Nat} {Q : State → Prop}
variable {cc : ByteArray} {pc : Nat} {ls : Array Slot} {nL : Nat} {D : va_G} {d : Nat → ClassId} {A : Nat → Prop} {H0 : Heap} {h : Nat → Nat} {S : Nat → Nat → Nat}
theorem sd_copyX (E : sd_E p m c cc nL s args RX0 D d) (hW : sd_W D A H0 (sd_wX h d S) H locs) (hsz : ls.size = nL) {K : Nat} (hK : K ≤ 16) (hframes : 1 ≤ R.frames) (hlocals : (([] : List Value).map fun v => v.category).sum + (nativeFrameWords "java/lang/System" "arraycopy" 5 + 11) ≤ R.locals) (hdg : decode cc pc = .ok (.invokestatic 113, 3))
    (kk : ∀ (H1 : Heap) (locs1 : List Loc), sd_W D A H0 (sd_wX h d (sd_cp S K)) H1 locs1 → W p l e R s m args below meth c H1 locs1 cells slots Q (F0 m (pc + 3) ls [])) : W p l e R s m args below meth c H locs cells slots Q (F0 m pc ls [.int (nI K), .int (nI 0), .ref (h 9), .int (nI 0), .ref (h 10)]) := by
  have hts := E.1.2.2.2.2
  have hc : (nI K).toNatClampNeg = K := nI_clamp (by omega)
  have h0 : (nI 0).toNatClampNeg = 0 := nI_clamp (by decide)
  refine va_copyl (rest := []) (f := fun j => lN (S 10 j)) (g := fun j => lN (S 9 j)) (ty := .long) E.1.1 E.1.2.1 (E.1.2.2.1.trans hsz.symm) E.1.2.2.2.1 (hts _ q163) (hts _ q165) (hts _ q164) (hts _ q18) E.2 hW.1 hW.2.1 hW.2.2 10 9 2 2 rfl rfl rfl rfl rfl (nI_pos (by decide)) (nI_pos (by decide)) (nI_pos (by omega)) (by rw [h0, hc]; omega) (by rw [h0, hc]; omega) (fun i _ => rfl) hframes hlocals hdg (fun H1 locs1 a b c => kk H1 locs1 ?_)
  rw [h0, hc] at a b
  have e : va_cpy (fun j => lN (S 10 j)) (fun j => lN (S 9 j)) 0 0 K = fun j => lN (if j < K then S 10 j else S 9 j) := by
    funext j
    unfold va_cpy
    by_cases z : j < K
    · rw [if_pos ⟨Nat.zero_le _, by omega⟩, if_pos z]; simp
    · rw [if_neg (by omega), if_neg z]
  rw [e] at a b
  exact ⟨a, b, c⟩
end

set_option maxHeartbeats 4000000 in
set_option maxRecDepth 100000 in
/-- words -/
theorem m_Xwords (l : Launch) (D : va_G) (d : Nat → ClassId) (h : Nat → Nat) (S : Nat → Nat → Nat) {n : Nat} {g : Nat → Nat} {F : Nat → Bool} (hI : sd_XI n g F S) {v a : Nat} (sz : Nat) : Met l yX0_words (ws_ yX0_words cX0_words 6 (some .long)) (sd_rm 4) (va_Pc [.ref (h 0), .int (nI v), .int (nI a)] (sd_P D d (sd_wX h d S) sz)) (sd_Ql D (fun (r : Int64) (u : Nat → Nat → Nat) => r = lN (dm_wd g F (a % 32) (v % 2147483648 % n)) ∧ sd_XQ n g F u) (fun u => sd_wX h d u) (va_A (sd_wX h d S) sz)) 0 0 (va_A (sd_wX h d S) sz) := by
  refine sd_ofW (Qc := sd_Ql D (fun (r : Int64) (u : Nat → Nat → Nat) => r = lN (dm_wd g F (a % 32) (v % 2147483648 % n)) ∧ sd_XQ n g F u) (fun u => sd_wX h d u)) (own := RX0) (by decide) rfl (Nat.le_of_ble_eq_true rfl) ?_
  intro p e s m below meth c ls A E hr hlk hnm hA hW hl
  have hX_ := E.1.1
  have hB_ := E.1.2.1
  have hown := E.1.2.2.2.1
  have hts := E.1.2.2.2.2
  have hl : lv_has ls 6 [(0, .ref (h 0)), (1, .int (nI v)), (2, .int (nI a))] := hl
  refine lv_aload_n hX_ hB_ dX0_words_0 rfl (lv_at hl 0 rfl) ?_
  refine lv_iload_n hX_ hB_ dX0_words_1 rfl (lv_at hl 1 rfl) ?_
  refine sd_callVi (y := yX0_kindOf) (by_ := cX0_kindOf) E hW hA [.int (nI v)] rfl rfl (m_kindOf l D d h S hI (v := v) _) (cwV 1 hts (lw_V q102 q104 qs1 q14 q105) rfl rfl rfl (by decide +kernel) ⟨Nat.le_of_ble_eq_true rfl, Nat.le_of_ble_eq_true rfl⟩) rfl (fun _ => rfl) hl.1 rfl (Nat.le_of_ble_eq_true rfl) dX0_words_2 ⟨Nat.zero_le _, Nat.zero_le _⟩ (fun r u H locs hw hW => ?_)
  obtain ⟨rfl, hQ, -⟩ := hw
  obtain ⟨⟨⟨hn1, hn2, hg⟩, e0, e1, e2, e3⟩, r3, ⟨k6, kl, ks, kt, l7, lF, ke⟩⟩ := id hQ
  obtain ⟨p1, ep⟩ : ∃ p1, p1 = v % 2147483648 % n := ⟨_, rfl⟩
  have hp1 : p1 < n := by rw [ep]; exact Nat.mod_lt _ (by omega)
  rw [← ep]
  have l1 := kl _ hp1
  refine lv_istore_n (lv' := [(3, .int (nI (u 2 p1))), (0, .ref (h 0)), (1, .int (nI v)), (2, .int (nI a))]) hX_ hB_ dX0_words_5 rfl hl (by decide) rfl (fun ls hl => ?_)
  refine lv_iconst (v := nI 0) hX_ hB_ dX0_words_6 (by decide) ?_
  refine lv_istore (lv' := [(4, .int (nI 0)), (3, .int (nI (u 2 p1))), (0, .ref (h 0)), (1, .int (nI v)), (2, .int (nI a))]) hX_ hB_ dX0_words_7 hl (by decide) rfl (fun ls hl => ?_)
  refine sd_loop2 (fun nn (k : Nat) (T : Nat → Nat → Nat) H locs ls => nn = 16 - k ∧ (k ≤ u 0 6) ∧ (∀ c, c ≠ 9 → c ≠ 10 → T c = u c) ∧ (∀ j, j < k → T 9 j = u 0 7 / 2 ^ j % 2) ∧ sd_W D A s.heap (sd_wX h d T) H locs ∧ lv_has ls 6 [(0, .ref (h 0)), (2, .int (nI a)), (3, .int (nI (u 2 p1))), (4, .int (nI k))]) (fun nn k T H locs ls hI ih0 => ?_) _ 0 u _ _ _ ⟨rfl, Nat.zero_le _, (fun _ _ _ => rfl), (fun j hj => absurd hj (Nat.not_lt_zero j)), hW, lv_sub hl [2, 4, 1, 0] rfl⟩
  · skip
    obtain ⟨rfl, hk, tc, t9, hW, hl⟩ := hI
    have t0 : T 0 = u 0 := tc 0 (by decide) (by decide)
    have t06 : T 0 6 = u 0 6 := by rw [t0]
    have t07 : T 0 7 = u 0 7 := by rw [t0]
    have t3 : T 3 = u 3 := tc 3 (by decide) (by decide)
    refine lv_iload hX_ hB_ dX0_words_9 (lv_at hl 3 rfl) ?_
    refine lv_aload_n hX_ hB_ dX0_words_11 rfl (lv_at hl 0 rfl) ?_
    refine sd_getX E hW 6 (v := .int (nI (T 0 6))) (by decide) rfl q33 dX0_words_12 ?_
    refine sd_icmp_ge (tgt := 41) hX_ hB_ dX0_words_15 (by decide) (by omega) (by omega) (fun c1 => ?_) (fun c1 => ?_)
    · skip
      have hwd : ∀ p, p < n → T 9 (u 2 p) = dm_wd g F 0 p := by
        intro p hp
        have hb := lF p hp
        rw [t9 _ (by have := kl p hp; omega)]
        show _ = if F p = true then 1 else 0
        rw [← hb]
        by_cases z : (u 0 7).testBit (u 2 p) = true
        · rw [if_pos z]; exact sd_tb1.mpr z
        · rw [if_neg z]; exact sd_tb0.mpr (by simpa using z)
      refine lv_iconst (v := nI 0) hX_ hB_ dX0_words_41 (by decide) ?_
      refine lv_istore (lv' := [(4, .int (nI 0)), (0, .ref (h 0)), (2, .int (nI a)), (3, .int (nI (u 2 p1)))]) hX_ hB_ dX0_words_42 hl (by decide) rfl (fun ls hl => ?_)
      refine sd_loop2 (fun nn (i : Nat) (T : Nat → Nat → Nat) H locs ls => nn = 32 - i ∧ (i ≤ a % 32) ∧ (∀ c, c ≠ 9 → c ≠ 10 → T c = u c) ∧ (∀ p, p < n → T 9 (u 2 p) = dm_wd g F i p) ∧ sd_W D A s.heap (sd_wX h d T) H locs ∧ lv_has ls 6 [(0, .ref (h 0)), (2, .int (nI a)), (3, .int (nI (u 2 p1))), (4, .int (nI i))]) (fun nn i T H locs ls hI ih1 => ?_) _ 0 T _ _ _ ⟨rfl, Nat.zero_le _, tc, hwd, hW, lv_sub hl [1, 2, 3, 0] rfl⟩
      · skip
        obtain ⟨rfl, hi, tc, hwd, hW, hl⟩ := hI
        have t0 : T 0 = u 0 := tc 0 (by decide) (by decide)
        have t06 : T 0 6 = u 0 6 := by rw [t0]
        have t07 : T 0 7 = u 0 7 := by rw [t0]
        have t3 : T 3 = u 3 := tc 3 (by decide) (by decide)
        refine lv_iload hX_ hB_ dX0_words_44 (lv_at hl 3 rfl) ?_
        refine lv_iload_n hX_ hB_ dX0_words_46 rfl (lv_at hl 1 rfl) ?_
        refine lv_bipush (v := nI 31) hX_ hB_ dX0_words_47 (by decide) ?_
        refine sd_iandE (sd_and31 _) hX_ hB_ dX0_words_49 ?_
        refine sd_icmp_ge (tgt := 132) hX_ hB_ dX0_words_50 (by decide) (by omega) (by omega) (fun c2 => ?_) (fun c2 => ?_)
        · skip
          refine lv_aload_n hX_ hB_ dX0_words_132 rfl (lv_at hl 0 rfl) ?_
          refine sd_getX E hW 15 (v := .ref (h 9)) (by decide) rfl q42 dX0_words_133 ?_
          refine lv_iload_n hX_ hB_ dX0_words_136 rfl (lv_at hl 2 rfl) ?_
          refine sd_lald (f := T 9) E hW 9 rfl (by omega) (by decide) dX0_words_137 ?_
          have hQT : sd_XQ n g F T := by
            have t2 : T 2 = u 2 := tc 2 (by decide) (by decide)
            refine ⟨sd_XB_of hQ.1 (by rw [t0]) (by rw [t0]) (tc 1 (by decide) (by decide)), by rw [t0]; exact r3, ?_⟩
            unfold sd_quo
            rw [t0, t2, t3]
            exact hQ.2.2
          refine sd_lret E hr hlk T hW ⟨?_, hQT⟩ dX0_words_138
          rw [hwd p1 hp1, show i = a % 32 by omega]
        · skip
          refine lv_iconst (v := nI 0) hX_ hB_ dX0_words_53 (by decide) ?_
          refine lv_istore (lv' := [(5, .int (nI 0)), (0, .ref (h 0)), (2, .int (nI a)), (3, .int (nI (u 2 p1))), (4, .int (nI i))]) hX_ hB_ dX0_words_54 hl (by decide) rfl (fun ls hl => ?_)
          refine sd_loop2 (fun nn (k : Nat) (T : Nat → Nat → Nat) H locs ls => nn = 16 - k ∧ (k ≤ u 0 6) ∧ (∀ c, c ≠ 9 → c ≠ 10 → T c = u c) ∧ (∀ p, p < n → T 9 (u 2 p) = dm_wd g F i p) ∧ (∀ p, p < n → u 2 p < k → T 10 (u 2 p) = dm_wd g F (i + 1) p) ∧ sd_W D A s.heap (sd_wX h d T) H locs ∧ lv_has ls 6 [(0, .ref (h 0)), (2, .int (nI a)), (3, .int (nI (u 2 p1))), (4, .int (nI i)), (5, .int (nI k))]) (fun nn k T H locs ls hI ih2 => ?_) _ 0 T _ _ _ ⟨rfl, Nat.zero_le _, tc, hwd, (fun p _ hp => absurd hp (Nat.not_lt_zero _)), hW, lv_sub hl [1, 2, 3, 4, 0] rfl⟩
          · skip
            obtain ⟨rfl, hk, tc, hwd, hnx, hW, hl⟩ := hI
            have t0 : T 0 = u 0 := tc 0 (by decide) (by decide)
            have t06 : T 0 6 = u 0 6 := by rw [t0]
            have t07 : T 0 7 = u 0 7 := by rw [t0]
            have t3 : T 3 = u 3 := tc 3 (by decide) (by decide)
            refine lv_iload hX_ hB_ dX0_words_56 (lv_at hl 4 rfl) ?_
            refine lv_aload_n hX_ hB_ dX0_words_58 rfl (lv_at hl 0 rfl) ?_
            refine sd_getX E hW 6 (v := .int (nI (T 0 6))) (by decide) rfl q33 dX0_words_59 ?_
            refine sd_icmp_ge (tgt := 109) hX_ hB_ dX0_words_62 (by decide) (by omega) (by omega) (fun c3 => ?_) (fun c3 => ?_)
            · skip
              refine lv_aload_n hX_ hB_ dX0_words_109 rfl (lv_at hl 0 rfl) ?_
              refine sd_getX E hW 16 (v := .ref (h 10)) (by decide) rfl q43 dX0_words_110 ?_
              refine lv_iconst (v := nI 0) hX_ hB_ dX0_words_113 (by decide) ?_
              refine lv_aload_n hX_ hB_ dX0_words_114 rfl (lv_at hl 0 rfl) ?_
              refine sd_getX E hW 15 (v := .ref (h 9)) (by decide) rfl q42 dX0_words_115 ?_
              refine lv_iconst (v := nI 0) hX_ hB_ dX0_words_118 (by decide) ?_
              refine lv_aload_n hX_ hB_ dX0_words_119 rfl (lv_at hl 0 rfl) ?_
              refine sd_getX E hW 6 (v := .int (nI (T 0 6))) (by decide) rfl q33 dX0_words_120 ?_
              rw [t06]
              refine sd_copyX E hW hl.1 (by omega) (Nat.le_of_ble_eq_true rfl) (Nat.le_of_ble_eq_true rfl) dX0_words_123 (fun H locs hW => ?_)
              refine sd_iinc (lv' := [(4, .int (nI (i + 1))), (0, .ref (h 0)), (2, .int (nI a)), (3, .int (nI (u 2 p1))), (5, .int (nI k))]) hX_ hB_ dX0_words_126 hl (k := 3) rfl (by decide) rfl (fun ls hl => ?_)
              refine lv_goto (tgt := 44) hX_ hB_ dX0_words_129 (by decide) ?_
              exact ih1 _ (i + 1) (sd_cp T (u 0 6)) H locs ls (by omega) ⟨rfl, by omega, (fun c h9 h10 => by unfold sd_cp; rw [if_neg h9]; exact tc c h9 h10), (fun p hp => by show (if u 2 p < u 0 6 then T 10 (u 2 p) else T 9 (u 2 p)) = _; rw [if_pos (kl p hp)]; exact hnx p hp (by have := kl p hp; omega)), hW, lv_sub hl [1, 2, 3, 0] rfl⟩
            · skip
              obtain ⟨p0, hp0, ek⟩ := ks k (by omega)
              have g1 := hg (2 * p0) (by omega)
              have g2 := hg (2 * p0 + 1) (by omega)
              have q1 := kl _ g1
              have q2 := kl _ g2
              have s1 : ∀ p, p < n → u 2 p = k → T 3 (2 * k) = u 2 (g (2 * p)) := fun p hp e => by rw [t3, ← e]; exact kt p 0 hp (by decide)
              have s2 : ∀ p, p < n → u 2 p = k → T 3 (2 * k + 1) = u 2 (g (2 * p + 1)) := fun p hp e => by rw [t3, ← e]; exact kt p 1 hp (by decide)
              have hsum : ∀ p, p < n → u 2 p = k → T 9 (T 3 (2 * k)) + T 9 (T 3 (2 * k + 1)) = dm_wd g F (i + 1) p := fun p hp e => by
                rw [s1 p hp e, s2 p hp e, hwd _ (hg _ (by omega)), hwd _ (hg _ (by omega))]; rfl
              have z1 : T 3 (2 * k) < 16 := by rw [s1 p0 hp0 ek]; omega
              have z2 : T 3 (2 * k + 1) < 16 := by rw [s2 p0 hp0 ek]; omega
              refine lv_aload_n hX_ hB_ dX0_words_65 rfl (lv_at hl 0 rfl) ?_
              refine sd_getX E hW 16 (v := .ref (h 10)) (by decide) rfl q43 dX0_words_66 ?_
              refine lv_iload hX_ hB_ dX0_words_69 (lv_at hl 4 rfl) ?_
              refine lv_aload_n hX_ hB_ dX0_words_71 rfl (lv_at hl 0 rfl) ?_
              refine sd_getX E hW 15 (v := .ref (h 9)) (by decide) rfl q42 dX0_words_72 ?_
              refine lv_aload_n hX_ hB_ dX0_words_75 rfl (lv_at hl 0 rfl) ?_
              refine sd_getX E hW 5 (v := .ref (h 3)) (by decide) rfl q32 dX0_words_76 ?_
              refine lv_iconst (v := nI 2) hX_ hB_ dX0_words_79 (by decide) ?_
              refine lv_iload hX_ hB_ dX0_words_80 (lv_at hl 4 rfl) ?_
              refine sd_imul hX_ hB_ dX0_words_82 ?_
              refine sd_ald (f := T 3) E hW 3 rfl (by omega) (by decide) dX0_words_83 ?_
              refine sd_lald (f := T 9) E hW 9 rfl (by omega) (by decide) dX0_words_84 ?_
              refine lv_aload_n hX_ hB_ dX0_words_85 rfl (lv_at hl 0 rfl) ?_
              refine sd_getX E hW 15 (v := .ref (h 9)) (by decide) rfl q42 dX0_words_86 ?_
              refine lv_aload_n hX_ hB_ dX0_words_89 rfl (lv_at hl 0 rfl) ?_
              refine sd_getX E hW 5 (v := .ref (h 3)) (by decide) rfl q32 dX0_words_90 ?_
              refine lv_iconst (v := nI 2) hX_ hB_ dX0_words_93 (by decide) ?_
              refine lv_iload hX_ hB_ dX0_words_94 (lv_at hl 4 rfl) ?_
              refine sd_imul hX_ hB_ dX0_words_96 ?_
              refine lv_iconst (v := nI 1) hX_ hB_ dX0_words_97 (by decide) ?_
              refine sd_iadd hX_ hB_ dX0_words_98 ?_
              refine sd_ald (f := T 3) E hW 3 rfl (by omega) (by decide) dX0_words_99 ?_
              refine sd_lald (f := T 9) E hW 9 rfl (by omega) (by decide) dX0_words_100 ?_
              refine sd_ladd hX_ hB_ dX0_words_101 ?_
              refine sd_lastX E hW 10 (by decide) (show k < 16 by omega) dX0_words_102 (fun H locs hW => ?_)
              refine sd_iinc (lv' := [(5, .int (nI (k + 1))), (0, .ref (h 0)), (2, .int (nI a)), (3, .int (nI (u 2 p1))), (4, .int (nI i))]) hX_ hB_ dX0_words_103 hl (k := 4) rfl (by decide) rfl (fun ls hl => ?_)
              refine lv_goto (tgt := 56) hX_ hB_ dX0_words_106 (by decide) ?_
              exact ih2 _ (k + 1) ((sd_up T 10 k ((T 9 (T 3 (2 * k))) + (T 9 (T 3 ((2 * k) + 1)))))) H locs ls (by omega) ⟨rfl, by omega, (fun c h9 h10 => by rw [sd_up_c _ _ _ h10]; exact tc c h9 h10), (fun p hp => by rw [sd_up_c _ _ _ (by decide)]; exact hwd p hp), (fun p hp hlt => by
                rw [sd_up_at]
                split
                · next e => exact hsum p hp e
                · exact hnx p hp (by omega)), hW, lv_sub hl [1, 2, 3, 4, 0] rfl⟩
    · skip
      refine lv_aload_n hX_ hB_ dX0_words_18 rfl (lv_at hl 0 rfl) ?_
      refine sd_getX E hW 15 (v := .ref (h 9)) (by decide) rfl q42 dX0_words_19 ?_
      refine lv_iload hX_ hB_ dX0_words_22 (lv_at hl 3 rfl) ?_
      refine lv_aload_n hX_ hB_ dX0_words_24 rfl (lv_at hl 0 rfl) ?_
      refine sd_getX E hW 7 (v := .int (nI (T 0 7))) (by decide) rfl q34 dX0_words_25 ?_
      rw [t07]
      refine lv_iload hX_ hB_ dX0_words_28 (lv_at hl 3 rfl) ?_
      refine sd_ishr hX_ hB_ dX0_words_30 (by omega) (by omega) ?_
      refine lv_iconst (v := nI 1) hX_ hB_ dX0_words_31 (by decide) ?_
      refine sd_iandE (sd_and1 _) hX_ hB_ dX0_words_32 ?_
      refine sd_i2l hX_ hB_ dX0_words_33 (Nat.lt_trans (Nat.mod_lt _ (by decide : 0 < 2)) (by decide)) ?_
      refine sd_lastX E hW 9 (by decide) (show k < 16 by omega) dX0_words_34 (fun H locs hW => ?_)
      refine sd_iinc (lv' := [(4, .int (nI (k + 1))), (0, .ref (h 0)), (2, .int (nI a)), (3, .int (nI (u 2 p1)))]) hX_ hB_ dX0_words_35 hl (k := 3) rfl (by decide) rfl (fun ls hl => ?_)
      refine lv_goto (tgt := 9) hX_ hB_ dX0_words_38 (by decide) ?_
      exact ih0 _ (k + 1) ((sd_up T 9 k ((u 0 7) / 2 ^ k % 2))) H locs ls (by omega) ⟨rfl, by omega, (fun c h9 h10 => by rw [sd_up_c _ _ _ h9]; exact tc c h9 h10), (fun j hj => by rw [sd_up_at]; split; (next e => rw [e]); exact t9 j (by omega)), hW, lv_sub hl [1, 2, 3, 0] rfl⟩
end
section
/-! the constructors -/
def sd_X0 : Nat → Nat → Nat := fun c j => if c = 0 then (if j = 0 then 2 else 0) else 0
def sd_M0 : Nat → Nat → Nat := fun c j => if c = 0 then (if j = 2 then 2 else 0) else 0
def sd_fX0 : List Value := [.int 0, .int 0, .null, .int 0, .null, .null, .int 0, .int 0, .null, .null, .int 0, .int 0, .null, .null, .null, .null, .null]
def sd_fM0 : List Value := [.null, .null, .int 0, .null, .null, .null, .null]
theorem sd_X0_ok : sd_XI 2 (fun _ => 0) (fun _ => false) sd_X0 := ⟨⟨⟨by decide, by decide, fun _ _ => by show 0 < 2; decide⟩, rfl, fun _ _ => rfl, by decide, fun p _ => Nat.zero_testBit p⟩, by decide, fun z => by cases z⟩
theorem sd_M0_ok : sd_MB 2 (fun _ => 0) (fun _ => false) sd_M0 := ⟨⟨by decide, by decide, fun _ _ => by show 0 < 2; decide⟩, rfl, fun _ _ => rfl, fun _ _ => rfl⟩
def sd_QX (D : va_G) (d : Nat → ClassId) (h0 : Nat) (A : Nat → Prop) : Array Value → State → Outcome → State → Prop := va_Qv (fun h : Nat → Nat => h 0 = h0) (fun h t => va_P D vwCl (sd_wX h d sd_X0) t.heap ∧ va_D A (sd_wX h d sd_X0)) A
def sd_QM (D : va_G) (d : Nat → ClassId) (h0 : Nat) (A : Nat → Prop) : Array Value → State → Outcome → State → Prop := va_Qv (fun h : Nat → Nat => h 0 = h0) (fun h t => va_P D vwCl (sd_wM h d sd_M0) t.heap ∧ va_D A (sd_wM h d sd_M0)) A
section
variable {p : Program} {l : Launch} {e : Env} {R : Room} {s : State} {m : MethodId} {args : Array Value} {below : List Frame} {meth : Method} {c : Code} {H : Heap} {locs : List Loc} {cells slots : Nat} {Q : State → Prop}
variable {cc : ByteArray} {pc : Nat} {ls : Array Slot} {rest : List Value} {nL : Nat} {own : String} {D : va_G} {d : Nat → ClassId} {A : Nat → Prop} {H0 : Heap} {ws : va_W}
/-- a new array, of the class that is known -/
theorem sd_newa (E : sd_E p m c cc nL s args own D d) (hW : sd_W D A H0 ws H locs) (hA : ∀ q, H0.size ≤ q → A q) {atype : ArrayType} (i : Nat) {cA0 : ClassId} {ty : FieldType} (ht : (sd_ty d)[i]? = some (cA0, ty)) (hty : newarray.typeOf atype = ty) (harr : Cond.arrayClass (newarray.typeOf atype) ∈ lw_all) (hu : ∀ c1 c2 : ClassId, va_RA s c1 ty → va_RA s c2 ty → c1 = c2) {N : Nat} {a0 : vp_A} (ha : ∀ cA : ClassId, vp_cell cA a0 = arrV cA N (fun _ => defaultValue ty)) (hN : N < 2 ^ 20) (hbytes : N * componentBytes ty ≤ 536870912) (hcells : cells + 1 ≤ R.cells) (hslots : slots + N ≤ R.slots) (hdg : decode cc pc = .ok (.newarray atype, 2))
    (kk : ∀ (q : Nat) (H1 : Heap), sd_W D A H0 (ws ++ [(q, .inl (cA0, a0))]) H1 locs → W p l e R s m args below meth c H1 locs (cells + 1) (slots + N) Q (F0 m (pc + 2) ls (.ref q :: rest))) : W p l e R s m args below meth c H locs cells slots Q (F0 m pc ls (.int (nI N) :: rest)) := by
  refine va_newa E.1.1 E.1.2.1 (E.1.2.2.2.2 _ harr) hty E.2 hW.1 hW.2.1 hW.2.2 hA ha (nI_pos (by omega)) (nI_clamp (by omega)) hbytes hcells hslots hdg (fun q cA H1 hK hP hD hS => ?_)
  have e : cA = cA0 := hu _ _ (hK.2 3 (cA, ty) rfl).2 (E.2.2 i _ ht).2
  subst e
  exact kk q H1 ⟨hP, hD, hS⟩
end

set_option maxHeartbeats 4000000 in
set_option maxRecDepth 100000 in
/-- constructor -/
theorem m_Xinit (l : Launch) (D : va_G) (d : Nat → ClassId) (h0 : Nat) (sz : Nat) : Met l yX0_init (ws_ yX0_init cX0_init 1 none) ({ frames := 1, cells := 10, slots := 1408, locals := 40 } : Room) (va_Pc [.ref h0] (sd_P D d ([(h0, .inr (0, sd_fX0))]) sz)) (sd_QX D d h0 (va_A ([(h0, .inr (0, sd_fX0))]) sz)) 10 1408 (va_A ([(h0, .inr (0, sd_fX0))]) sz) := by
  refine sd_ofW (Qc := sd_QX D d h0) (own := RX0) (by decide) rfl (Nat.le_of_ble_eq_true rfl) ?_
  intro p e s m below meth c ls A E hr hlk hnm hA hW hl
  have hX_ := E.1.1
  have hB_ := E.1.2.1
  have hown := E.1.2.2.2.1
  have hts := E.1.2.2.2.2
  have hl : lv_has ls 1 [(0, .ref h0)] := hl
  have hml := E.1.2.2.1
  have hW : sd_W D A s.heap [(h0, .inr (0, [.int 0, .int 0, .null, .int 0, .null, .null, .int 0, .int 0, .null, .null, .int 0, .int 0, .null, .null, .null, .null, .null]))] s.heap [] := hW
  refine lv_aload_n hX_ hB_ dX0_init_0 rfl (lv_at hl 0 rfl) ?_
  refine W.objInit hX_ hB_ hown (hts _ q24) (hts _ q25) (hts _ q26) rfl (by rw [hml]; exact hl.1) rfl dX0_init_1 (Nat.le_of_ble_eq_true rfl) (Nat.le_of_ble_eq_true rfl) ?_
  refine W.eq (g2 := F0 m 4 ls []) rfl ?_
  refine lv_aload_n hX_ hB_ dX0_init_4 rfl (lv_at hl 0 rfl) ?_
  refine lv_iconst (v := nI 2) hX_ hB_ dX0_init_5 (by decide) ?_
  refine va_put (D := D) (ci := 0) (v := .int (nI 2)) (ty := tyX0 0) (C := RX0) (T := TX0) (N := 17) hX_ hB_ hts in_X0 tyX0 tyX0_ok nmX0 hown E.2 hW.1 hW.2.1 hW.2.2 0 rfl rfl 0 (by decide) (hts _ q27) (fun _ h9 => h9) rfl (tyX0_ok 0 (by decide)) rfl rfl (Nat.le_of_ble_eq_true rfl) dX0_init_6 (fun H locs hP hD hS => ?_)
  have hW : sd_W D A s.heap [(h0, .inr (0, [.int (nI 2), .int 0, .null, .int 0, .null, .null, .int 0, .int 0, .null, .null, .int 0, .int 0, .null, .null, .null, .null, .null]))] H locs := ⟨hP, hD, hS⟩
  refine lv_aload_n hX_ hB_ dX0_init_9 rfl (lv_at hl 0 rfl) ?_
  refine lv_bipush (v := nI 32) hX_ hB_ dX0_init_10 (by decide) ?_
  refine sd_newa (atype := .int) (N := 32) (a0 := (32, .inl (fun _ => nI 0))) E hW hA 0 rfl rfl q79 (fun c1 c2 h1 h2 => Option.some.inj (h1.symm.trans h2)) (fun _ => rfl) (by decide) (by decide) (Nat.le_of_ble_eq_true rfl) (Nat.le_of_ble_eq_true rfl) dX0_init_12 (fun a1 H hW => ?_)
  have hW : sd_W D A s.heap [(h0, .inr (0, [.int (nI 2), .int 0, .null, .int 0, .null, .null, .int 0, .int 0, .null, .null, .int 0, .int 0, .null, .null, .null, .null, .null])), (a1, .inl (d 0, 32, .inl (fun _ => nI 0)))] H locs := hW
  refine va_putF (D := D) (ci := 0) (v := .ref a1) (ty := tyX0 2) (C := RX0) (T := TX0) (N := 17) hX_ hB_ hts in_X0 tyX0 tyX0_ok nmX0 hown E.2 hW.1 hW.2.1 hW.2.2 0 rfl rfl 2 (by decide) (hts _ q29) (fun _ h9 => h9) rfl hnm rfl (tyX0_ok 2 (by decide)) rfl rfl (Nat.le_of_ble_eq_true rfl) dX0_init_14 (fun H locs hP hD hS => ?_)
  have hW : sd_W D A s.heap [(h0, .inr (0, [.int (nI 2), .int 0, .ref a1, .int 0, .null, .null, .int 0, .int 0, .null, .null, .int 0, .int 0, .null, .null, .null, .null, .null])), (a1, .inl (d 0, 32, .inl (fun _ => nI 0)))] H locs := ⟨hP, hD, hS⟩
  refine lv_aload_n hX_ hB_ dX0_init_17 rfl (lv_at hl 0 rfl) ?_
  refine lv_bipush (v := nI 16) hX_ hB_ dX0_init_18 (by decide) ?_
  refine sd_newa (atype := .int) (N := 16) (a0 := (16, .inl (fun _ => nI 0))) E hW hA 0 rfl rfl q79 (fun c1 c2 h1 h2 => Option.some.inj (h1.symm.trans h2)) (fun _ => rfl) (by decide) (by decide) (Nat.le_of_ble_eq_true rfl) (Nat.le_of_ble_eq_true rfl) dX0_init_20 (fun a2 H hW => ?_)
  have hW : sd_W D A s.heap [(h0, .inr (0, [.int (nI 2), .int 0, .ref a1, .int 0, .null, .null, .int 0, .int 0, .null, .null, .int 0, .int 0, .null, .null, .null, .null, .null])), (a1, .inl (d 0, 32, .inl (fun _ => nI 0))), (a2, .inl (d 0, 16, .inl (fun _ => nI 0)))] H locs := hW
  refine va_putF (D := D) (ci := 0) (v := .ref a2) (ty := tyX0 4) (C := RX0) (T := TX0) (N := 17) hX_ hB_ hts in_X0 tyX0 tyX0_ok nmX0 hown E.2 hW.1 hW.2.1 hW.2.2 0 rfl rfl 4 (by decide) (hts _ q31) (fun _ h9 => h9) rfl hnm rfl (tyX0_ok 4 (by decide)) rfl rfl (Nat.le_of_ble_eq_true rfl) dX0_init_22 (fun H locs hP hD hS => ?_)
  have hW : sd_W D A s.heap [(h0, .inr (0, [.int (nI 2), .int 0, .ref a1, .int 0, .ref a2, .null, .int 0, .int 0, .null, .null, .int 0, .int 0, .null, .null, .null, .null, .null])), (a1, .inl (d 0, 32, .inl (fun _ => nI 0))), (a2, .inl (d 0, 16, .inl (fun _ => nI 0)))] H locs := ⟨hP, hD, hS⟩
  refine lv_aload_n hX_ hB_ dX0_init_25 rfl (lv_at hl 0 rfl) ?_
  refine lv_bipush (v := nI 32) hX_ hB_ dX0_init_26 (by decide) ?_
  refine sd_newa (atype := .int) (N := 32) (a0 := (32, .inl (fun _ => nI 0))) E hW hA 0 rfl rfl q79 (fun c1 c2 h1 h2 => Option.some.inj (h1.symm.trans h2)) (fun _ => rfl) (by decide) (by decide) (Nat.le_of_ble_eq_true rfl) (Nat.le_of_ble_eq_true rfl) dX0_init_28 (fun a3 H hW => ?_)
  have hW : sd_W D A s.heap [(h0, .inr (0, [.int (nI 2), .int 0, .ref a1, .int 0, .ref a2, .null, .int 0, .int 0, .null, .null, .int 0, .int 0, .null, .null, .null, .null, .null])), (a1, .inl (d 0, 32, .inl (fun _ => nI 0))), (a2, .inl (d 0, 16, .inl (fun _ => nI 0))), (a3, .inl (d 0, 32, .inl (fun _ => nI 0)))] H locs := hW
  refine va_putF (D := D) (ci := 0) (v := .ref a3) (ty := tyX0 5) (C := RX0) (T := TX0) (N := 17) hX_ hB_ hts in_X0 tyX0 tyX0_ok nmX0 hown E.2 hW.1 hW.2.1 hW.2.2 0 rfl rfl 5 (by decide) (hts _ q32) (fun _ h9 => h9) rfl hnm rfl (tyX0_ok 5 (by decide)) rfl rfl (Nat.le_of_ble_eq_true rfl) dX0_init_30 (fun H locs hP hD hS => ?_)
  have hW : sd_W D A s.heap [(h0, .inr (0, [.int (nI 2), .int 0, .ref a1, .int 0, .ref a2, .ref a3, .int 0, .int 0, .null, .null, .int 0, .int 0, .null, .null, .null, .null, .null])), (a1, .inl (d 0, 32, .inl (fun _ => nI 0))), (a2, .inl (d 0, 16, .inl (fun _ => nI 0))), (a3, .inl (d 0, 32, .inl (fun _ => nI 0)))] H locs := ⟨hP, hD, hS⟩
  refine lv_aload_n hX_ hB_ dX0_init_33 rfl (lv_at hl 0 rfl) ?_
  refine lv_bipush (v := nI 16) hX_ hB_ dX0_init_34 (by decide) ?_
  refine sd_newa (atype := .int) (N := 16) (a0 := (16, .inl (fun _ => nI 0))) E hW hA 0 rfl rfl q79 (fun c1 c2 h1 h2 => Option.some.inj (h1.symm.trans h2)) (fun _ => rfl) (by decide) (by decide) (Nat.le_of_ble_eq_true rfl) (Nat.le_of_ble_eq_true rfl) dX0_init_36 (fun a4 H hW => ?_)
  have hW : sd_W D A s.heap [(h0, .inr (0, [.int (nI 2), .int 0, .ref a1, .int 0, .ref a2, .ref a3, .int 0, .int 0, .null, .null, .int 0, .int 0, .null, .null, .null, .null, .null])), (a1, .inl (d 0, 32, .inl (fun _ => nI 0))), (a2, .inl (d 0, 16, .inl (fun _ => nI 0))), (a3, .inl (d 0, 32, .inl (fun _ => nI 0))), (a4, .inl (d 0, 16, .inl (fun _ => nI 0)))] H locs := hW
  refine va_putF (D := D) (ci := 0) (v := .ref a4) (ty := tyX0 8) (C := RX0) (T := TX0) (N := 17) hX_ hB_ hts in_X0 tyX0 tyX0_ok nmX0 hown E.2 hW.1 hW.2.1 hW.2.2 0 rfl rfl 8 (by decide) (hts _ q35) (fun _ h9 => h9) rfl hnm rfl (tyX0_ok 8 (by decide)) rfl rfl (Nat.le_of_ble_eq_true rfl) dX0_init_38 (fun H locs hP hD hS => ?_)
  have hW : sd_W D A s.heap [(h0, .inr (0, [.int (nI 2), .int 0, .ref a1, .int 0, .ref a2, .ref a3, .int 0, .int 0, .ref a4, .null, .int 0, .int 0, .null, .null, .null, .null, .null])), (a1, .inl (d 0, 32, .inl (fun _ => nI 0))), (a2, .inl (d 0, 16, .inl (fun _ => nI 0))), (a3, .inl (d 0, 32, .inl (fun _ => nI 0))), (a4, .inl (d 0, 16, .inl (fun _ => nI 0)))] H locs := ⟨hP, hD, hS⟩
  refine lv_aload_n hX_ hB_ dX0_init_41 rfl (lv_at hl 0 rfl) ?_
  refine lv_sipush (v := nI 512) hX_ hB_ dX0_init_42 (by decide) ?_
  refine sd_newa (atype := .int) (N := 512) (a0 := (512, .inl (fun _ => nI 0))) E hW hA 0 rfl rfl q79 (fun c1 c2 h1 h2 => Option.some.inj (h1.symm.trans h2)) (fun _ => rfl) (by decide) (by decide) (Nat.le_of_ble_eq_true rfl) (Nat.le_of_ble_eq_true rfl) dX0_init_45 (fun a5 H hW => ?_)
  have hW : sd_W D A s.heap [(h0, .inr (0, [.int (nI 2), .int 0, .ref a1, .int 0, .ref a2, .ref a3, .int 0, .int 0, .ref a4, .null, .int 0, .int 0, .null, .null, .null, .null, .null])), (a1, .inl (d 0, 32, .inl (fun _ => nI 0))), (a2, .inl (d 0, 16, .inl (fun _ => nI 0))), (a3, .inl (d 0, 32, .inl (fun _ => nI 0))), (a4, .inl (d 0, 16, .inl (fun _ => nI 0))), (a5, .inl (d 0, 512, .inl (fun _ => nI 0)))] H locs := hW
  refine va_putF (D := D) (ci := 0) (v := .ref a5) (ty := tyX0 9) (C := RX0) (T := TX0) (N := 17) hX_ hB_ hts in_X0 tyX0 tyX0_ok nmX0 hown E.2 hW.1 hW.2.1 hW.2.2 0 rfl rfl 9 (by decide) (hts _ q36) (fun _ h9 => h9) rfl hnm rfl (tyX0_ok 9 (by decide)) rfl rfl (Nat.le_of_ble_eq_true rfl) dX0_init_47 (fun H locs hP hD hS => ?_)
  have hW : sd_W D A s.heap [(h0, .inr (0, [.int (nI 2), .int 0, .ref a1, .int 0, .ref a2, .ref a3, .int 0, .int 0, .ref a4, .ref a5, .int 0, .int 0, .null, .null, .null, .null, .null])), (a1, .inl (d 0, 32, .inl (fun _ => nI 0))), (a2, .inl (d 0, 16, .inl (fun _ => nI 0))), (a3, .inl (d 0, 32, .inl (fun _ => nI 0))), (a4, .inl (d 0, 16, .inl (fun _ => nI 0))), (a5, .inl (d 0, 512, .inl (fun _ => nI 0)))] H locs := ⟨hP, hD, hS⟩
  refine lv_aload_n hX_ hB_ dX0_init_50 rfl (lv_at hl 0 rfl) ?_
  refine lv_sipush (v := nI 256) hX_ hB_ dX0_init_51 (by decide) ?_
  refine sd_newa (atype := .int) (N := 256) (a0 := (256, .inl (fun _ => nI 0))) E hW hA 0 rfl rfl q79 (fun c1 c2 h1 h2 => Option.some.inj (h1.symm.trans h2)) (fun _ => rfl) (by decide) (by decide) (Nat.le_of_ble_eq_true rfl) (Nat.le_of_ble_eq_true rfl) dX0_init_54 (fun a6 H hW => ?_)
  have hW : sd_W D A s.heap [(h0, .inr (0, [.int (nI 2), .int 0, .ref a1, .int 0, .ref a2, .ref a3, .int 0, .int 0, .ref a4, .ref a5, .int 0, .int 0, .null, .null, .null, .null, .null])), (a1, .inl (d 0, 32, .inl (fun _ => nI 0))), (a2, .inl (d 0, 16, .inl (fun _ => nI 0))), (a3, .inl (d 0, 32, .inl (fun _ => nI 0))), (a4, .inl (d 0, 16, .inl (fun _ => nI 0))), (a5, .inl (d 0, 512, .inl (fun _ => nI 0))), (a6, .inl (d 0, 256, .inl (fun _ => nI 0)))] H locs := hW
  refine va_putF (D := D) (ci := 0) (v := .ref a6) (ty := tyX0 12) (C := RX0) (T := TX0) (N := 17) hX_ hB_ hts in_X0 tyX0 tyX0_ok nmX0 hown E.2 hW.1 hW.2.1 hW.2.2 0 rfl rfl 12 (by decide) (hts _ q39) (fun _ h9 => h9) rfl hnm rfl (tyX0_ok 12 (by decide)) rfl rfl (Nat.le_of_ble_eq_true rfl) dX0_init_56 (fun H locs hP hD hS => ?_)
  have hW : sd_W D A s.heap [(h0, .inr (0, [.int (nI 2), .int 0, .ref a1, .int 0, .ref a2, .ref a3, .int 0, .int 0, .ref a4, .ref a5, .int 0, .int 0, .ref a6, .null, .null, .null, .null])), (a1, .inl (d 0, 32, .inl (fun _ => nI 0))), (a2, .inl (d 0, 16, .inl (fun _ => nI 0))), (a3, .inl (d 0, 32, .inl (fun _ => nI 0))), (a4, .inl (d 0, 16, .inl (fun _ => nI 0))), (a5, .inl (d 0, 512, .inl (fun _ => nI 0))), (a6, .inl (d 0, 256, .inl (fun _ => nI 0)))] H locs := ⟨hP, hD, hS⟩
  refine lv_aload_n hX_ hB_ dX0_init_59 rfl (lv_at hl 0 rfl) ?_
  refine lv_sipush (v := nI 256) hX_ hB_ dX0_init_60 (by decide) ?_
  refine sd_newa (atype := .int) (N := 256) (a0 := (256, .inl (fun _ => nI 0))) E hW hA 0 rfl rfl q79 (fun c1 c2 h1 h2 => Option.some.inj (h1.symm.trans h2)) (fun _ => rfl) (by decide) (by decide) (Nat.le_of_ble_eq_true rfl) (Nat.le_of_ble_eq_true rfl) dX0_init_63 (fun a7 H hW => ?_)
  have hW : sd_W D A s.heap [(h0, .inr (0, [.int (nI 2), .int 0, .ref a1, .int 0, .ref a2, .ref a3, .int 0, .int 0, .ref a4, .ref a5, .int 0, .int 0, .ref a6, .null, .null, .null, .null])), (a1, .inl (d 0, 32, .inl (fun _ => nI 0))), (a2, .inl (d 0, 16, .inl (fun _ => nI 0))), (a3, .inl (d 0, 32, .inl (fun _ => nI 0))), (a4, .inl (d 0, 16, .inl (fun _ => nI 0))), (a5, .inl (d 0, 512, .inl (fun _ => nI 0))), (a6, .inl (d 0, 256, .inl (fun _ => nI 0))), (a7, .inl (d 0, 256, .inl (fun _ => nI 0)))] H locs := hW
  refine va_putF (D := D) (ci := 0) (v := .ref a7) (ty := tyX0 13) (C := RX0) (T := TX0) (N := 17) hX_ hB_ hts in_X0 tyX0 tyX0_ok nmX0 hown E.2 hW.1 hW.2.1 hW.2.2 0 rfl rfl 13 (by decide) (hts _ q40) (fun _ h9 => h9) rfl hnm rfl (tyX0_ok 13 (by decide)) rfl rfl (Nat.le_of_ble_eq_true rfl) dX0_init_65 (fun H locs hP hD hS => ?_)
  have hW : sd_W D A s.heap [(h0, .inr (0, [.int (nI 2), .int 0, .ref a1, .int 0, .ref a2, .ref a3, .int 0, .int 0, .ref a4, .ref a5, .int 0, .int 0, .ref a6, .ref a7, .null, .null, .null])), (a1, .inl (d 0, 32, .inl (fun _ => nI 0))), (a2, .inl (d 0, 16, .inl (fun _ => nI 0))), (a3, .inl (d 0, 32, .inl (fun _ => nI 0))), (a4, .inl (d 0, 16, .inl (fun _ => nI 0))), (a5, .inl (d 0, 512, .inl (fun _ => nI 0))), (a6, .inl (d 0, 256, .inl (fun _ => nI 0))), (a7, .inl (d 0, 256, .inl (fun _ => nI 0)))] H locs := ⟨hP, hD, hS⟩
  refine lv_aload_n hX_ hB_ dX0_init_68 rfl (lv_at hl 0 rfl) ?_
  refine lv_sipush (v := nI 256) hX_ hB_ dX0_init_69 (by decide) ?_
  refine sd_newa (atype := .boolean) (N := 256) (a0 := (256, .inl (fun _ => nI 0))) E hW hA 1 rfl rfl q80 (fun c1 c2 h1 h2 => Option.some.inj (h1.symm.trans h2)) (fun _ => rfl) (by decide) (by decide) (Nat.le_of_ble_eq_true rfl) (Nat.le_of_ble_eq_true rfl) dX0_init_72 (fun a8 H hW => ?_)
  have hW : sd_W D A s.heap [(h0, .inr (0, [.int (nI 2), .int 0, .ref a1, .int 0, .ref a2, .ref a3, .int 0, .int 0, .ref a4, .ref a5, .int 0, .int 0, .ref a6, .ref a7, .null, .null, .null])), (a1, .inl (d 0, 32, .inl (fun _ => nI 0))), (a2, .inl (d 0, 16, .inl (fun _ => nI 0))), (a3, .inl (d 0, 32, .inl (fun _ => nI 0))), (a4, .inl (d 0, 16, .inl (fun _ => nI 0))), (a5, .inl (d 0, 512, .inl (fun _ => nI 0))), (a6, .inl (d 0, 256, .inl (fun _ => nI 0))), (a7, .inl (d 0, 256, .inl (fun _ => nI 0))), (a8, .inl (d 1, 256, .inl (fun _ => nI 0)))] H locs := hW
  refine va_putF (D := D) (ci := 0) (v := .ref a8) (ty := tyX0 14) (C := RX0) (T := TX0) (N := 17) hX_ hB_ hts in_X0 tyX0 tyX0_ok nmX0 hown E.2 hW.1 hW.2.1 hW.2.2 0 rfl rfl 14 (by decide) (hts _ q41) (fun _ h9 => h9) rfl hnm rfl (tyX0_ok 14 (by decide)) rfl rfl (Nat.le_of_ble_eq_true rfl) dX0_init_74 (fun H locs hP hD hS => ?_)
  have hW : sd_W D A s.heap [(h0, .inr (0, [.int (nI 2), .int 0, .ref a1, .int 0, .ref a2, .ref a3, .int 0, .int 0, .ref a4, .ref a5, .int 0, .int 0, .ref a6, .ref a7, .ref a8, .null, .null])), (a1, .inl (d 0, 32, .inl (fun _ => nI 0))), (a2, .inl (d 0, 16, .inl (fun _ => nI 0))), (a3, .inl (d 0, 32, .inl (fun _ => nI 0))), (a4, .inl (d 0, 16, .inl (fun _ => nI 0))), (a5, .inl (d 0, 512, .inl (fun _ => nI 0))), (a6, .inl (d 0, 256, .inl (fun _ => nI 0))), (a7, .inl (d 0, 256, .inl (fun _ => nI 0))), (a8, .inl (d 1, 256, .inl (fun _ => nI 0)))] H locs := ⟨hP, hD, hS⟩
  refine lv_aload_n hX_ hB_ dX0_init_77 rfl (lv_at hl 0 rfl) ?_
  refine lv_bipush (v := nI 16) hX_ hB_ dX0_init_78 (by decide) ?_
  refine sd_newa (atype := .long) (N := 16) (a0 := (16, .inr (.inl (fun _ => lN 0)))) E hW hA 2 rfl rfl q81 (fun c1 c2 h1 h2 => Option.some.inj (h1.symm.trans h2)) (fun _ => rfl) (by decide) (by decide) (Nat.le_of_ble_eq_true rfl) (Nat.le_of_ble_eq_true rfl) dX0_init_80 (fun a9 H hW => ?_)
  have hW : sd_W D A s.heap [(h0, .inr (0, [.int (nI 2), .int 0, .ref a1, .int 0, .ref a2, .ref a3, .int 0, .int 0, .ref a4, .ref a5, .int 0, .int 0, .ref a6, .ref a7, .ref a8, .null, .null])), (a1, .inl (d 0, 32, .inl (fun _ => nI 0))), (a2, .inl (d 0, 16, .inl (fun _ => nI 0))), (a3, .inl (d 0, 32, .inl (fun _ => nI 0))), (a4, .inl (d 0, 16, .inl (fun _ => nI 0))), (a5, .inl (d 0, 512, .inl (fun _ => nI 0))), (a6, .inl (d 0, 256, .inl (fun _ => nI 0))), (a7, .inl (d 0, 256, .inl (fun _ => nI 0))), (a8, .inl (d 1, 256, .inl (fun _ => nI 0))), (a9, .inl (d 2, 16, .inr (.inl (fun _ => lN 0))))] H locs := hW
  refine va_putF (D := D) (ci := 0) (v := .ref a9) (ty := tyX0 15) (C := RX0) (T := TX0) (N := 17) hX_ hB_ hts in_X0 tyX0 tyX0_ok nmX0 hown E.2 hW.1 hW.2.1 hW.2.2 0 rfl rfl 15 (by decide) (hts _ q42) (fun _ h9 => h9) rfl hnm rfl (tyX0_ok 15 (by decide)) rfl rfl (Nat.le_of_ble_eq_true rfl) dX0_init_82 (fun H locs hP hD hS => ?_)
  have hW : sd_W D A s.heap [(h0, .inr (0, [.int (nI 2), .int 0, .ref a1, .int 0, .ref a2, .ref a3, .int 0, .int 0, .ref a4, .ref a5, .int 0, .int 0, .ref a6, .ref a7, .ref a8, .ref a9, .null])), (a1, .inl (d 0, 32, .inl (fun _ => nI 0))), (a2, .inl (d 0, 16, .inl (fun _ => nI 0))), (a3, .inl (d 0, 32, .inl (fun _ => nI 0))), (a4, .inl (d 0, 16, .inl (fun _ => nI 0))), (a5, .inl (d 0, 512, .inl (fun _ => nI 0))), (a6, .inl (d 0, 256, .inl (fun _ => nI 0))), (a7, .inl (d 0, 256, .inl (fun _ => nI 0))), (a8, .inl (d 1, 256, .inl (fun _ => nI 0))), (a9, .inl (d 2, 16, .inr (.inl (fun _ => lN 0))))] H locs := ⟨hP, hD, hS⟩
  refine lv_aload_n hX_ hB_ dX0_init_85 rfl (lv_at hl 0 rfl) ?_
  refine lv_bipush (v := nI 16) hX_ hB_ dX0_init_86 (by decide) ?_
  refine sd_newa (atype := .long) (N := 16) (a0 := (16, .inr (.inl (fun _ => lN 0)))) E hW hA 2 rfl rfl q81 (fun c1 c2 h1 h2 => Option.some.inj (h1.symm.trans h2)) (fun _ => rfl) (by decide) (by decide) (Nat.le_of_ble_eq_true rfl) (Nat.le_of_ble_eq_true rfl) dX0_init_88 (fun a10 H hW => ?_)
  have hW : sd_W D A s.heap [(h0, .inr (0, [.int (nI 2), .int 0, .ref a1, .int 0, .ref a2, .ref a3, .int 0, .int 0, .ref a4, .ref a5, .int 0, .int 0, .ref a6, .ref a7, .ref a8, .ref a9, .null])), (a1, .inl (d 0, 32, .inl (fun _ => nI 0))), (a2, .inl (d 0, 16, .inl (fun _ => nI 0))), (a3, .inl (d 0, 32, .inl (fun _ => nI 0))), (a4, .inl (d 0, 16, .inl (fun _ => nI 0))), (a5, .inl (d 0, 512, .inl (fun _ => nI 0))), (a6, .inl (d 0, 256, .inl (fun _ => nI 0))), (a7, .inl (d 0, 256, .inl (fun _ => nI 0))), (a8, .inl (d 1, 256, .inl (fun _ => nI 0))), (a9, .inl (d 2, 16, .inr (.inl (fun _ => lN 0)))), (a10, .inl (d 2, 16, .inr (.inl (fun _ => lN 0))))] H locs := hW
  refine va_putF (D := D) (ci := 0) (v := .ref a10) (ty := tyX0 16) (C := RX0) (T := TX0) (N := 17) hX_ hB_ hts in_X0 tyX0 tyX0_ok nmX0 hown E.2 hW.1 hW.2.1 hW.2.2 0 rfl rfl 16 (by decide) (hts _ q43) (fun _ h9 => h9) rfl hnm rfl (tyX0_ok 16 (by decide)) rfl rfl (Nat.le_of_ble_eq_true rfl) dX0_init_90 (fun H locs hP hD hS => ?_)
  have hW : sd_W D A s.heap [(h0, .inr (0, [.int (nI 2), .int 0, .ref a1, .int 0, .ref a2, .ref a3, .int 0, .int 0, .ref a4, .ref a5, .int 0, .int 0, .ref a6, .ref a7, .ref a8, .ref a9, .ref a10])), (a1, .inl (d 0, 32, .inl (fun _ => nI 0))), (a2, .inl (d 0, 16, .inl (fun _ => nI 0))), (a3, .inl (d 0, 32, .inl (fun _ => nI 0))), (a4, .inl (d 0, 16, .inl (fun _ => nI 0))), (a5, .inl (d 0, 512, .inl (fun _ => nI 0))), (a6, .inl (d 0, 256, .inl (fun _ => nI 0))), (a7, .inl (d 0, 256, .inl (fun _ => nI 0))), (a8, .inl (d 1, 256, .inl (fun _ => nI 0))), (a9, .inl (d 2, 16, .inr (.inl (fun _ => lN 0)))), (a10, .inl (d 2, 16, .inr (.inl (fun _ => lN 0))))] H locs := ⟨hP, hD, hS⟩
  have hW : sd_W D A s.heap (sd_wX (fun k => match k with | 0 => h0 | 1 => a1 | 2 => a2 | 3 => a3 | 4 => a4 | 5 => a5 | 6 => a6 | 7 => a7 | 8 => a8 | 9 => a9 | _ => a10) d sd_X0) H locs := hW
  refine W.widen (k := 10) (n := 1408) (Nat.le_of_ble_eq_true rfl) (Nat.le_of_ble_eq_true rfl) ?_
  exact W.vret hX_ hB_ hr (fun t ht _ => ⟨⟨_, rfl, rfl, by rw [ht]; exact hW.1, hW.2.1⟩, hW.2.2.F ht⟩) hW.2.2.2.2 dX0_init_93 hlk

set_option maxHeartbeats 4000000 in
set_option maxRecDepth 100000 in
/-- constructor -/
theorem m_Minit (l : Launch) (D : va_G) (d : Nat → ClassId) (h0 : Nat) (sz : Nat) : Met l yX1_init (ws_ yX1_init cX1_init 1 none) ({ frames := 1, cells := 6, slots := 592, locals := 40 } : Room) (va_Pc [.ref h0] (sd_P D d ([(h0, .inr (1, sd_fM0))]) sz)) (sd_QM D d h0 (va_A ([(h0, .inr (1, sd_fM0))]) sz)) 6 592 (va_A ([(h0, .inr (1, sd_fM0))]) sz) := by
  refine sd_ofW (Qc := sd_QM D d h0) (own := RX1) (by decide) rfl (Nat.le_of_ble_eq_true rfl) ?_
  intro p e s m below meth c ls A E hr hlk hnm hA hW hl
  have hX_ := E.1.1
  have hB_ := E.1.2.1
  have hown := E.1.2.2.2.1
  have hts := E.1.2.2.2.2
  have hl : lv_has ls 1 [(0, .ref h0)] := hl
  have hml := E.1.2.2.1
  have hW : sd_W D A s.heap [(h0, .inr (1, [.null, .null, .int 0, .null, .null, .null, .null]))] s.heap [] := hW
  refine lv_aload_n hX_ hB_ dX1_init_0 rfl (lv_at hl 0 rfl) ?_
  refine W.objInit hX_ hB_ hown (hts _ q171) (hts _ q25) (hts _ q26) rfl (by rw [hml]; exact hl.1) rfl dX1_init_1 (Nat.le_of_ble_eq_true rfl) (Nat.le_of_ble_eq_true rfl) ?_
  refine W.eq (g2 := F0 m 4 ls []) rfl ?_
  refine lv_aload_n hX_ hB_ dX1_init_4 rfl (lv_at hl 0 rfl) ?_
  refine lv_bipush (v := nI 32) hX_ hB_ dX1_init_5 (by decide) ?_
  refine sd_newa (atype := .int) (N := 32) (a0 := (32, .inl (fun _ => nI 0))) E hW hA 0 rfl rfl q79 (fun c1 c2 h1 h2 => Option.some.inj (h1.symm.trans h2)) (fun _ => rfl) (by decide) (by decide) (Nat.le_of_ble_eq_true rfl) (Nat.le_of_ble_eq_true rfl) dX1_init_7 (fun a1 H hW => ?_)
  have hW : sd_W D A s.heap [(h0, .inr (1, [.null, .null, .int 0, .null, .null, .null, .null])), (a1, .inl (d 0, 32, .inl (fun _ => nI 0)))] H [] := hW
  refine va_putF (D := D) (ci := 1) (v := .ref a1) (ty := tyX1 0) (C := RX1) (T := TX1) (N := 7) hX_ hB_ hts in_X1 tyX1 tyX1_ok nmX1 hown E.2 hW.1 hW.2.1 hW.2.2 0 rfl rfl 0 (by decide) (hts _ q172) (fun _ h9 => h9) rfl hnm rfl (tyX1_ok 0 (by decide)) rfl rfl (Nat.le_of_ble_eq_true rfl) dX1_init_9 (fun H locs hP hD hS => ?_)
  have hW : sd_W D A s.heap [(h0, .inr (1, [.ref a1, .null, .int 0, .null, .null, .null, .null])), (a1, .inl (d 0, 32, .inl (fun _ => nI 0)))] H locs := ⟨hP, hD, hS⟩
  refine lv_aload_n hX_ hB_ dX1_init_12 rfl (lv_at hl 0 rfl) ?_
  refine lv_bipush (v := nI 16) hX_ hB_ dX1_init_13 (by decide) ?_
  refine sd_newa (atype := .boolean) (N := 16) (a0 := (16, .inl (fun _ => nI 0))) E hW hA 1 rfl rfl q80 (fun c1 c2 h1 h2 => Option.some.inj (h1.symm.trans h2)) (fun _ => rfl) (by decide) (by decide) (Nat.le_of_ble_eq_true rfl) (Nat.le_of_ble_eq_true rfl) dX1_init_15 (fun a2 H hW => ?_)
  have hW : sd_W D A s.heap [(h0, .inr (1, [.ref a1, .null, .int 0, .null, .null, .null, .null])), (a1, .inl (d 0, 32, .inl (fun _ => nI 0))), (a2, .inl (d 1, 16, .inl (fun _ => nI 0)))] H locs := hW
  refine va_putF (D := D) (ci := 1) (v := .ref a2) (ty := tyX1 1) (C := RX1) (T := TX1) (N := 7) hX_ hB_ hts in_X1 tyX1 tyX1_ok nmX1 hown E.2 hW.1 hW.2.1 hW.2.2 0 rfl rfl 1 (by decide) (hts _ q173) (fun _ h9 => h9) rfl hnm rfl (tyX1_ok 1 (by decide)) rfl rfl (Nat.le_of_ble_eq_true rfl) dX1_init_17 (fun H locs hP hD hS => ?_)
  have hW : sd_W D A s.heap [(h0, .inr (1, [.ref a1, .ref a2, .int 0, .null, .null, .null, .null])), (a1, .inl (d 0, 32, .inl (fun _ => nI 0))), (a2, .inl (d 1, 16, .inl (fun _ => nI 0)))] H locs := ⟨hP, hD, hS⟩
  refine lv_aload_n hX_ hB_ dX1_init_20 rfl (lv_at hl 0 rfl) ?_
  refine lv_iconst (v := nI 2) hX_ hB_ dX1_init_21 (by decide) ?_
  refine va_put (D := D) (ci := 1) (v := .int (nI 2)) (ty := tyX1 2) (C := RX1) (T := TX1) (N := 7) hX_ hB_ hts in_X1 tyX1 tyX1_ok nmX1 hown E.2 hW.1 hW.2.1 hW.2.2 0 rfl rfl 2 (by decide) (hts _ q174) (fun _ h9 => h9) rfl (tyX1_ok 2 (by decide)) rfl rfl (Nat.le_of_ble_eq_true rfl) dX1_init_22 (fun H locs hP hD hS => ?_)
  have hW : sd_W D A s.heap [(h0, .inr (1, [.ref a1, .ref a2, .int (nI 2), .null, .null, .null, .null])), (a1, .inl (d 0, 32, .inl (fun _ => nI 0))), (a2, .inl (d 1, 16, .inl (fun _ => nI 0)))] H locs := ⟨hP, hD, hS⟩
  refine lv_aload_n hX_ hB_ dX1_init_25 rfl (lv_at hl 0 rfl) ?_
  refine lv_sipush (v := nI 256) hX_ hB_ dX1_init_26 (by decide) ?_
  refine sd_newa (atype := .boolean) (N := 256) (a0 := (256, .inl (fun _ => nI 0))) E hW hA 1 rfl rfl q80 (fun c1 c2 h1 h2 => Option.some.inj (h1.symm.trans h2)) (fun _ => rfl) (by decide) (by decide) (Nat.le_of_ble_eq_true rfl) (Nat.le_of_ble_eq_true rfl) dX1_init_29 (fun a3 H hW => ?_)
  have hW : sd_W D A s.heap [(h0, .inr (1, [.ref a1, .ref a2, .int (nI 2), .null, .null, .null, .null])), (a1, .inl (d 0, 32, .inl (fun _ => nI 0))), (a2, .inl (d 1, 16, .inl (fun _ => nI 0))), (a3, .inl (d 1, 256, .inl (fun _ => nI 0)))] H locs := hW
  refine va_putF (D := D) (ci := 1) (v := .ref a3) (ty := tyX1 3) (C := RX1) (T := TX1) (N := 7) hX_ hB_ hts in_X1 tyX1 tyX1_ok nmX1 hown E.2 hW.1 hW.2.1 hW.2.2 0 rfl rfl 3 (by decide) (hts _ q175) (fun _ h9 => h9) rfl hnm rfl (tyX1_ok 3 (by decide)) rfl rfl (Nat.le_of_ble_eq_true rfl) dX1_init_31 (fun H locs hP hD hS => ?_)
  have hW : sd_W D A s.heap [(h0, .inr (1, [.ref a1, .ref a2, .int (nI 2), .ref a3, .null, .null, .null])), (a1, .inl (d 0, 32, .inl (fun _ => nI 0))), (a2, .inl (d 1, 16, .inl (fun _ => nI 0))), (a3, .inl (d 1, 256, .inl (fun _ => nI 0)))] H locs := ⟨hP, hD, hS⟩
  refine lv_aload_n hX_ hB_ dX1_init_34 rfl (lv_at hl 0 rfl) ?_
  refine lv_sipush (v := nI 256) hX_ hB_ dX1_init_35 (by decide) ?_
  refine sd_newa (atype := .int) (N := 256) (a0 := (256, .inl (fun _ => nI 0))) E hW hA 0 rfl rfl q79 (fun c1 c2 h1 h2 => Option.some.inj (h1.symm.trans h2)) (fun _ => rfl) (by decide) (by decide) (Nat.le_of_ble_eq_true rfl) (Nat.le_of_ble_eq_true rfl) dX1_init_38 (fun a4 H hW => ?_)
  have hW : sd_W D A s.heap [(h0, .inr (1, [.ref a1, .ref a2, .int (nI 2), .ref a3, .null, .null, .null])), (a1, .inl (d 0, 32, .inl (fun _ => nI 0))), (a2, .inl (d 1, 16, .inl (fun _ => nI 0))), (a3, .inl (d 1, 256, .inl (fun _ => nI 0))), (a4, .inl (d 0, 256, .inl (fun _ => nI 0)))] H locs := hW
  refine va_putF (D := D) (ci := 1) (v := .ref a4) (ty := tyX1 4) (C := RX1) (T := TX1) (N := 7) hX_ hB_ hts in_X1 tyX1 tyX1_ok nmX1 hown E.2 hW.1 hW.2.1 hW.2.2 0 rfl rfl 4 (by decide) (hts _ q176) (fun _ h9 => h9) rfl hnm rfl (tyX1_ok 4 (by decide)) rfl rfl (Nat.le_of_ble_eq_true rfl) dX1_init_40 (fun H locs hP hD hS => ?_)
  have hW : sd_W D A s.heap [(h0, .inr (1, [.ref a1, .ref a2, .int (nI 2), .ref a3, .ref a4, .null, .null])), (a1, .inl (d 0, 32, .inl (fun _ => nI 0))), (a2, .inl (d 1, 16, .inl (fun _ => nI 0))), (a3, .inl (d 1, 256, .inl (fun _ => nI 0))), (a4, .inl (d 0, 256, .inl (fun _ => nI 0)))] H locs := ⟨hP, hD, hS⟩
  refine lv_aload_n hX_ hB_ dX1_init_43 rfl (lv_at hl 0 rfl) ?_
  refine lv_bipush (v := nI 16) hX_ hB_ dX1_init_44 (by decide) ?_
  refine sd_newa (atype := .long) (N := 16) (a0 := (16, .inr (.inl (fun _ => lN 0)))) E hW hA 2 rfl rfl q81 (fun c1 c2 h1 h2 => Option.some.inj (h1.symm.trans h2)) (fun _ => rfl) (by decide) (by decide) (Nat.le_of_ble_eq_true rfl) (Nat.le_of_ble_eq_true rfl) dX1_init_46 (fun a5 H hW => ?_)
  have hW : sd_W D A s.heap [(h0, .inr (1, [.ref a1, .ref a2, .int (nI 2), .ref a3, .ref a4, .null, .null])), (a1, .inl (d 0, 32, .inl (fun _ => nI 0))), (a2, .inl (d 1, 16, .inl (fun _ => nI 0))), (a3, .inl (d 1, 256, .inl (fun _ => nI 0))), (a4, .inl (d 0, 256, .inl (fun _ => nI 0))), (a5, .inl (d 2, 16, .inr (.inl (fun _ => lN 0))))] H locs := hW
  refine va_putF (D := D) (ci := 1) (v := .ref a5) (ty := tyX1 5) (C := RX1) (T := TX1) (N := 7) hX_ hB_ hts in_X1 tyX1 tyX1_ok nmX1 hown E.2 hW.1 hW.2.1 hW.2.2 0 rfl rfl 5 (by decide) (hts _ q177) (fun _ h9 => h9) rfl hnm rfl (tyX1_ok 5 (by decide)) rfl rfl (Nat.le_of_ble_eq_true rfl) dX1_init_48 (fun H locs hP hD hS => ?_)
  have hW : sd_W D A s.heap [(h0, .inr (1, [.ref a1, .ref a2, .int (nI 2), .ref a3, .ref a4, .ref a5, .null])), (a1, .inl (d 0, 32, .inl (fun _ => nI 0))), (a2, .inl (d 1, 16, .inl (fun _ => nI 0))), (a3, .inl (d 1, 256, .inl (fun _ => nI 0))), (a4, .inl (d 0, 256, .inl (fun _ => nI 0))), (a5, .inl (d 2, 16, .inr (.inl (fun _ => lN 0))))] H locs := ⟨hP, hD, hS⟩
  refine lv_aload_n hX_ hB_ dX1_init_51 rfl (lv_at hl 0 rfl) ?_
  refine lv_bipush (v := nI 16) hX_ hB_ dX1_init_52 (by decide) ?_
  refine sd_newa (atype := .long) (N := 16) (a0 := (16, .inr (.inl (fun _ => lN 0)))) E hW hA 2 rfl rfl q81 (fun c1 c2 h1 h2 => Option.some.inj (h1.symm.trans h2)) (fun _ => rfl) (by decide) (by decide) (Nat.le_of_ble_eq_true rfl) (Nat.le_of_ble_eq_true rfl) dX1_init_54 (fun a6 H hW => ?_)
  have hW : sd_W D A s.heap [(h0, .inr (1, [.ref a1, .ref a2, .int (nI 2), .ref a3, .ref a4, .ref a5, .null])), (a1, .inl (d 0, 32, .inl (fun _ => nI 0))), (a2, .inl (d 1, 16, .inl (fun _ => nI 0))), (a3, .inl (d 1, 256, .inl (fun _ => nI 0))), (a4, .inl (d 0, 256, .inl (fun _ => nI 0))), (a5, .inl (d 2, 16, .inr (.inl (fun _ => lN 0)))), (a6, .inl (d 2, 16, .inr (.inl (fun _ => lN 0))))] H locs := hW
  refine va_putF (D := D) (ci := 1) (v := .ref a6) (ty := tyX1 6) (C := RX1) (T := TX1) (N := 7) hX_ hB_ hts in_X1 tyX1 tyX1_ok nmX1 hown E.2 hW.1 hW.2.1 hW.2.2 0 rfl rfl 6 (by decide) (hts _ q178) (fun _ h9 => h9) rfl hnm rfl (tyX1_ok 6 (by decide)) rfl rfl (Nat.le_of_ble_eq_true rfl) dX1_init_56 (fun H locs hP hD hS => ?_)
  have hW : sd_W D A s.heap [(h0, .inr (1, [.ref a1, .ref a2, .int (nI 2), .ref a3, .ref a4, .ref a5, .ref a6])), (a1, .inl (d 0, 32, .inl (fun _ => nI 0))), (a2, .inl (d 1, 16, .inl (fun _ => nI 0))), (a3, .inl (d 1, 256, .inl (fun _ => nI 0))), (a4, .inl (d 0, 256, .inl (fun _ => nI 0))), (a5, .inl (d 2, 16, .inr (.inl (fun _ => lN 0)))), (a6, .inl (d 2, 16, .inr (.inl (fun _ => lN 0))))] H locs := ⟨hP, hD, hS⟩
  have hW : sd_W D A s.heap (sd_wM (fun k => match k with | 0 => h0 | 1 => a1 | 2 => a2 | 3 => a3 | 4 => a4 | 5 => a5 | _ => a6) d sd_M0) H locs := hW
  refine W.widen (k := 6) (n := 592) (Nat.le_of_ble_eq_true rfl) (Nat.le_of_ble_eq_true rfl) ?_
  exact W.vret hX_ hB_ hr (fun t ht _ => ⟨⟨_, rfl, rfl, by rw [ht]; exact hW.1, hW.2.1⟩, hW.2.2.F ht⟩) hW.2.2.2.2 dX1_init_59 hlk
end
section
/-! THE CLAIM OUT OF ONE WALK OF THE LAW'S BODY. Your part is whole_start (and what it stands on); all else here is the same for every law, but numbers. -/
def R_law : String := "StateDeskLaw"
def lw_P (b : Addr) (xs : List Int32) (args : Array Value) (s : State) : Prop := args = #[.ref b] ∧ s.IntsAt b xs ∧ xs.length ≤ 320 ∧ (Jvm.Cond.and given_1 narrow_1).before args s = true
def lw_Q (_ : Array Value) (s : State) (o : Outcome) (t : State) : Prop := o = .returned (some (.int 1)) ∧ Framed s o t [] 600000 7290000
def lw_Z (below : List Frame) (a : Array Value) (s : State) : State → Prop := fun t => ∃ o, t.status = .running ∧ Ended t below o ∧ lw_Q a s o t
/-- the law's own end, with 1 on the stack, nothing written that was there before, its room as the claim has it -/
theorem lw_ret {p : Program} {l : Launch} {e : Env} {s : State} {m : MethodId} {below : List Frame} {meth : Method} {c : Code} {b : Nat} (hx : p.tables.exec = Jvm.exec) (hb : c.code = code) (hr : meth.sig.returnType = ret) (hlocks : meth.locks = false) {pc : Nat} {H : Heap} {ls : Array Slot} (hdg : decode code pc = .ok (.ireturn, 1)) : W p l e room_1 s m #[Value.ref b] below meth c H [] 600000 7290000 (lw_Z below #[Value.ref b] s) (F0 m pc ls [.int 1]) := by
  intro T hT X
  obtain ⟨fs, hret, hrun, hended, hW, hframe⟩ := X.leave (v := some (.int 1)) (hlocks := hlocks) (fun h => by rw [hr] at h; cases h)
  have hmeth' : T.vm.method? m = some meth := X.method'
  refine ⟨T.setFrames fs, ?_, .returned (some (.int 1)), hrun, hended, rfl, ⟨_, rfl⟩, hW, hframe⟩
  jvm_step X.here [X.here.top, hx, hb, hdg, hmeth', hr, ret, narrow_b1]
  (try refine ⟨rfl, ?_⟩); (try refine ⟨rfl, ?_⟩)
  first | (intro acts; rw [hret _ acts rfl rfl rfl]) | rw [hret _ _ rfl rfl rfl]
  exact Steps.refl _
/-- what holds at the law's entry: the machine, the code, the tables' words (any of lw_tbl by 'hts w (by decide +kernel)'), the script of L ints xs at the cell b, what the Statement gives of the start (any of its parts by flat_of_before) -/
def lw_At (p : Program) (s : State) (m : MethodId) (meth : Method) (c : Code) (b L : Nat) (xs : Nat → Int32) : Prop :=
  p.tables.exec = Jvm.exec ∧ c.code = code ∧ meth.sig.returnType = ret ∧ c.maxLocals = 4 ∧ s.vm.findClass R_law = some m.cls ∧ (∀ w ∈ lw_tbl, w.before #[Value.ref b] s = true) ∧ va_X b L xs s s.heap ∧ b < s.heap.size ∧ meth.locks = false ∧ (Jvm.Cond.and given_1 narrow_1).before #[Value.ref b] s = true
/-! the law's own rows: both objects' worlds beside each other -/
section
variable {p : Program} {l : Launch} {e : Env} {R : Room} {s : State} {m : MethodId} {args : Array Value} {below : List Frame} {meth : Method} {c : Code} {H : Heap} {locs : List Loc} {cells slots : Nat} {Q : State → Prop}
variable {cc : ByteArray} {pc : Nat} {ls : Array Slot} {rest st : List Value} {nL : Nat} {own : String} {D : va_G} {d : Nat → ClassId} {A : Nat → Prop} {H0 : Heap} {wa wb : va_W}
variable {y : MethodName} {by_ : ByteArray} {L index n ci : Nat} {ret : Option FieldType} {rm : Room} {a : Nat} {fs : List Value} {kc : vw_C}
theorem sd_W.swap (h : sd_W D A H0 (wa ++ wb) H locs) : sd_W D A H0 (wb ++ wa) H locs := ⟨va_P.swap (a := []) h.1, va_D.swap (a := []) h.2.1, h.2.2⟩
theorem sd_W.left (h : sd_W D A H0 (wa ++ wb) H locs) : sd_W D A H0 wa H locs := by
  have hg : ∀ (k : Nat) (q : Nat × va_E), wa[k]? = some q → (wa ++ wb)[k]? = some q := by
    intro k q hk
    rw [List.getElem?_append_left (List.getElem?_eq_some_iff.mp hk).1]
    exact hk
  exact ⟨fun k q hk => h.1 k q (hg k q hk), ⟨fun i j x z hi hj e => h.2.1.1 i j x z (hg i x hi) (hg j z hj) e, fun k q hk => h.2.1.2 k q (hg k q hk)⟩, h.2.2⟩
/-- behind a call on the first part: the second is as it was -/
theorem sd_join {w1 : va_W} {H1 : Heap} {locs1 : List Loc} (h : sd_W D A H0 (wa ++ wb) H locs) (hk : ∀ q : Nat, q < H.size → ¬ va_A wa H.size q → H1[q]? = H[q]?) (hP1 : va_P D vwCl w1 H1) (had : w1.map (fun q => q.1) = wa.map (fun q => q.1)) (hS : va_S A H0 H1 locs1) : sd_W D A H0 (w1 ++ wb) H1 locs1 := by
  have hr : ∀ (k : Nat) (q : Nat × va_E), wb[k]? = some q → (wa ++ wb)[wa.length + k]? = some q := by
    intro k q hq
    rw [List.getElem?_append_right (by omega), show wa.length + k - wa.length = k by omega]
    exact hq
  refine ⟨hP1.app (fun k q hq => ?_), sd_D_of h.2.1 (by rw [List.map_append, List.map_append, had]) (fun _ z => z), hS⟩
  have hat := h.1 _ q (hr k q hq)
  refine hat.kept (hk q.1 hat.lt ?_)
  rintro (⟨j, e', hj⟩ | hz)
  · have hj2 : (wa ++ wb)[j]? = some (q.1, e') := by
      rw [List.getElem?_append_left (List.getElem?_eq_some_iff.mp hj).1]
      exact hj
    have := h.2.1.1 _ _ _ _ hj2 (hr k q hq) rfl
    have := (List.getElem?_eq_some_iff.mp hj).1
    omega
  · have := hat.lt
    omega
theorem sd_lVi {σ : Type} {post : Int32 → σ → Prop} {w : σ → va_W} (E : sd_E p m c cc nL s args own D d) (hW : sd_W D A s.heap (wa ++ wb) H locs) (hA : ∀ q, s.heap.size ≤ q → A q) (As : List Value) (hr : wa[0]? = some (a, .inr (ci, fs))) (hc : vwCl[ci]? = some kc)
    (hM : Met l y (ws_ y by_ L ret) rm (va_Pc (.ref a :: As) (sd_P D d wa H.size)) (sd_Qi D post w (va_A wa H.size)) 0 0 (va_A wa H.size)) (cw : CallW R s args own kc.1 index y by_ L ret (ws_ y by_ L ret) rm 0 0 n) (hn : As.length = n) (had : ∀ u, (w u).map (fun q => q.1) = wa.map (fun q => q.1)) (hsz : ls.size = nL) (hst : st = As.reverse ++ .ref a :: rest) (hrest : (rest.map fun v => v.category).sum ≤ 8) (hdg : decode cc pc = .ok (.invokevirtual index, 3)) (hR : cells ≤ R.cells ∧ slots ≤ R.slots)
    (kk : ∀ (r : Int32) (u : σ) (H1 : Heap) (locs1 : List Loc), post r u → sd_W D A s.heap (w u ++ wb) H1 locs1 → W p l e R s m args below meth c H1 locs1 cells slots Q (F0 m (pc + 3) ls (.int r :: rest))) : W p l e R s m args below meth c H locs cells slots Q (F0 m pc ls st) := by
  have hF := hW.left.free hA
  refine va_calli (va_runV (As := As) (rest := rest) E.1 hM cw (sd_preV E hW.left As hr hc) rfl hn hsz hst (by simpa using hrest) hdg hR) hW.2.2 (fun q _ h => hF q h) hF (fun r u t H1 locs1 ht hvm hw hB hz1 hk1 hS => ?_)
  exact kk r u H1 locs1 hw (sd_join hW hk1 (by rw [← ht]; exact hB) (had u) hS)
theorem sd_lVv {σ : Type} {post : σ → Prop} {w : σ → va_W} (E : sd_E p m c cc nL s args own D d) (hW : sd_W D A s.heap (wa ++ wb) H locs) (hA : ∀ q, s.heap.size ≤ q → A q) (As : List Value) (hr : wa[0]? = some (a, .inr (ci, fs))) (hc : vwCl[ci]? = some kc)
    (hM : Met l y (ws_ y by_ L ret) rm (va_Pc (.ref a :: As) (sd_P D d wa H.size)) (sd_Qv D post w (va_A wa H.size)) 0 0 (va_A wa H.size)) (cw : CallW R s args own kc.1 index y by_ L ret (ws_ y by_ L ret) rm 0 0 n) (hn : As.length = n) (had : ∀ u, (w u).map (fun q => q.1) = wa.map (fun q => q.1)) (hsz : ls.size = nL) (hst : st = As.reverse ++ .ref a :: rest) (hrest : (rest.map fun v => v.category).sum ≤ 8) (hdg : decode cc pc = .ok (.invokevirtual index, 3)) (hR : cells ≤ R.cells ∧ slots ≤ R.slots)
    (kk : ∀ (u : σ) (H1 : Heap) (locs1 : List Loc), post u → sd_W D A s.heap (w u ++ wb) H1 locs1 → W p l e R s m args below meth c H1 locs1 cells slots Q (F0 m (pc + 3) ls rest)) : W p l e R s m args below meth c H locs cells slots Q (F0 m pc ls st) := by
  have hF := hW.left.free hA
  refine va_callv (va_runV (As := As) (rest := rest) E.1 hM cw (sd_preV E hW.left As hr hc) rfl hn hsz hst (by simpa using hrest) hdg hR) hW.2.2 (fun q _ h => hF q h) hF (fun u t H1 locs1 ht hvm hw hB hz1 hk1 hS => ?_)
  exact kk u H1 locs1 hw (sd_join hW hk1 (by rw [← ht]; exact hB) (had u) hS)
theorem sd_lVl {σ : Type} {post : Int64 → σ → Prop} {w : σ → va_W} (E : sd_E p m c cc nL s args own D d) (hW : sd_W D A s.heap (wa ++ wb) H locs) (hA : ∀ q, s.heap.size ≤ q → A q) (As : List Value) (hr : wa[0]? = some (a, .inr (ci, fs))) (hc : vwCl[ci]? = some kc)
    (hM : Met l y (ws_ y by_ L ret) rm (va_Pc (.ref a :: As) (sd_P D d wa H.size)) (sd_Ql D post w (va_A wa H.size)) 0 0 (va_A wa H.size)) (cw : CallW R s args own kc.1 index y by_ L ret (ws_ y by_ L ret) rm 0 0 n) (hn : As.length = n) (had : ∀ u, (w u).map (fun q => q.1) = wa.map (fun q => q.1)) (hsz : ls.size = nL) (hst : st = As.reverse ++ .ref a :: rest) (hrest : (rest.map fun v => v.category).sum ≤ 8) (hdg : decode cc pc = .ok (.invokevirtual index, 3)) (hR : cells ≤ R.cells ∧ slots ≤ R.slots)
    (kk : ∀ (r : Int64) (u : σ) (H1 : Heap) (locs1 : List Loc), post r u → sd_W D A s.heap (w u ++ wb) H1 locs1 → W p l e R s m args below meth c H1 locs1 cells slots Q (F0 m (pc + 3) ls (.long r :: rest))) : W p l e R s m args below meth c H locs cells slots Q (F0 m pc ls st) := by
  have hF := hW.left.free hA
  refine va_calll (va_runV (As := As) (rest := rest) E.1 hM cw (sd_preV E hW.left As hr hc) rfl hn hsz hst (by simpa using hrest) hdg hR) hW.2.2 (fun q _ h => hF q h) hF (fun r u t H1 locs1 ht hvm hw hB hz1 hk1 hS => ?_)
  exact kk r u H1 locs1 hw (sd_join hW hk1 (by rw [← ht]; exact hB) (had u) hS)
theorem sd_sld (hx : p.tables.exec = Jvm.exec) (hb : c.code = cc) {b L : Nat} {xs : Nat → Int32} (hX : va_X b L xs s H0) (hbl : b < H0.size) (hbA : ¬ A b) (hS : va_S A H0 H locs) {ys : Nat → Nat} (hys : ∀ j, xs j = nI (ys j) ∧ ys j < 2 ^ 32) {j : Nat} (hj : j < L) (hL : L < 2 ^ 31) (hdg : decode cc pc = .ok (.iaload, 1))
    (kk : W p l e R s m args below meth c H locs cells slots Q (F0 m (pc + 1) ls (.int (nI (ys j)) :: rest))) : W p l e R s m args below meth c H locs cells slots Q (F0 m pc ls (.int (nI j) :: .ref b :: rest)) := by
  refine va_sld hx hb hX hbl hbA hS (vp_in_nI hj hL) hdg ?_
  rw [nI_clamp (Nat.lt_trans hj hL), (hys j).1]
  exact kk
end
theorem sd_inc5 (x : Nat) : nI x + Int32.ofInt 5 = nI (x + 5) := nI_add x 5
theorem sd_5 {L i : Nat} (hL : L < 2 ^ 30) (hi : i < 2 ^ 30) : nI L - nI 5 < nI i ↔ L < i + 5 := by
  rw [Int32.lt_iff_toInt_lt, pk_sub_toInt hL (by decide), nI_toInt (by omega)]
  omega
theorem sd_cmp0 (x : Int64) : lg_cmp x x = 0 := by
  unfold lg_cmp
  rw [if_neg (Int64.lt_irrefl), if_pos rfl]
/-- the classes of the arrays -/
theorem sd_arr {ty : FieldType} {args : Array Value} {s : State} (h : (Cond.arrayClass ty).before args s = true) : ∃ cA : ClassId, ArrOfT s cA ty ∧ s.vm.findClass ("[" ++ ty.toString) = some cA := by
  obtain ⟨cA, k, comp, h1, h2, h3⟩ := Cond.arrayClass_spec h
  exact ⟨cA, fun n z => ⟨fun k h => (by cases h), k, h2, comp, h3⟩, h1⟩
end
section
set_option maxHeartbeats 8000000 in
set_option maxRecDepth 100000 in
/-- THE LAW, from its entry -/
theorem whole_start {p : Program} {e : Env} {s : State} {m : MethodId} {below : List Frame} {meth : Method} {c : Code} (l : Launch) {b L : Nat} {xs : Nat → Int32} (hL : L ≤ 320) (C0 : lw_At p s m meth c b L xs) : W p l e room_1 s m #[Value.ref b] below meth c s.heap [] 0 0 (lw_Z below #[Value.ref b] s) (entryFrame m ([Value.ref b] : List Value).toArray 4) := by
  obtain ⟨hX_, hB_, hr, hml, hown, hts0, hX, hbl, hlk, hgv⟩ := id C0
  have hts : ∀ w ∈ lw_all, w.before #[Value.ref b] s = true := fun w h => hts0 w (lw_all_tbl h)
  have hA : ∀ q : Nat, s.heap.size ≤ q → (fun q : Nat => s.heap.size ≤ q) q := fun _ h => h
  have hbA : ¬ (fun q : Nat => s.heap.size ≤ q) b := Nat.not_le.mpr hbl
  obtain ⟨c0, iS0, hKn0⟩ := u_known (C := RX0) (T := TX0) (N := 17) (n := 17) hts in_X0 (hts _ q20)
  obtain ⟨c1, iS1, hKn1⟩ := u_known (C := RX1) (T := TX1) (N := 7) (n := 7) hts in_X1 (hts _ q167)
  obtain ⟨D, hKc⟩ : ∃ (D : va_G), ∀ (k : Nat) (q : vw_C), vwCl[k]? = some q → u_Kn s q.1 q.2.1 q.2.2 (D.1 k) (D.2 k) := by
    refine ⟨(fun k => if k = 0 then c0 else c1, fun k => if k = 0 then iS0 else iS1), ?_⟩
    intro k q hq
    match k, hq with
    | 0, hq => cases hq; exact hKn0
    | 1, hq => cases hq; exact hKn1
    | k + 2, hq => simp [vwCl] at hq
  obtain ⟨dA, hA0, hA1⟩ := sd_arr (hts _ q79)
  obtain ⟨dB, hB0, hB1⟩ := sd_arr (hts _ q80)
  obtain ⟨dC, hC0, hC1⟩ := sd_arr (hts _ q81)
  obtain ⟨d, hd0, hd1, hd2⟩ : ∃ d : Nat → ClassId, d 0 = dA ∧ d 1 = dB ∧ d 2 = dC := ⟨fun k => match k with | 0 => dA | 1 => dB | _ => dC, rfl, rfl, rfl⟩
  have hK : va_K D vwCl (sd_ty d) s := by
    refine ⟨hKc, fun k q hq => ?_⟩
    match k, hq with
    | 0, hq => cases hq; rw [hd0]; exact ⟨hA0, hA1⟩
    | 1, hq => cases hq; rw [hd1]; exact ⟨hB0, hB1⟩
    | 2, hq => cases hq; rw [hd2]; exact ⟨hC0, hC1⟩
    | k + 3, hq => simp [sd_ty] at hq
  have E : sd_E p m c code 4 s #[Value.ref b] R_law D d := ⟨⟨hX_, hB_, hml, hown, hts⟩, hK⟩
  obtain ⟨ys, hys⟩ : ∃ ys : Nat → Nat, ∀ j, xs j = nI (ys j) ∧ ys j < 2 ^ 32 := ⟨fun j => (xs j).toBitVec.toNat, fun j => ⟨sd_of _, sd_of_lt _⟩⟩
  have hS : va_S (fun q : Nat => s.heap.size ≤ q) s.heap s.heap [] := va_S.rf
  have hP : va_P D vwCl [] s.heap := fun k q h => by simp at h
  have hD : va_D (fun q : Nat => s.heap.size ≤ q) [] := ⟨fun i j p q h => by simp at h, fun k q h => by simp at h⟩
  have hl := lv_entry ([.ref b]) (n := 4) (Nat.le_of_ble_eq_true rfl)
  rw [lg_entry_eq]
  generalize (lg_sl ([.ref b]) ++ List.replicate (4 - (lg_sl ([.ref b])).length) Slot.unset).toArray = ls at hl ⊢
  have hl : lv_has ls 4 [(0, .ref b)] := hl
  refine va_new (D := D) (ci := 0) (fs := sd_fX0) (C := RX0) (T := TX0) (N := 17) hX_ hB_ hts in_X0 tyX0 tyX0_ok hown (hts _ q19) (hts _ q20) (hts _ q14) hK hP hD hS hA rfl (fun j hj => by rcases (show j = 0 ∨ j = 1 ∨ j = 2 ∨ j = 3 ∨ j = 4 ∨ j = 5 ∨ j = 6 ∨ j = 7 ∨ j = 8 ∨ j = 9 ∨ j = 10 ∨ j = 11 ∨ j = 12 ∨ j = 13 ∨ j = 14 ∨ j = 15 ∨ j = 16 by omega) with rfl | rfl | rfl | rfl | rfl | rfl | rfl | rfl | rfl | rfl | rfl | rfl | rfl | rfl | rfl | rfl | rfl <;> rfl) (Nat.le_of_ble_eq_true rfl) (Nat.le_of_ble_eq_true rfl) dL_law_0 (fun x0 H hP hD hS => ?_)
  have hP : va_P D vwCl [(x0, .inr (0, sd_fX0))] H := hP
  have hD : va_D (fun q : Nat => s.heap.size ≤ q) [(x0, .inr (0, sd_fX0))] := hD
  refine W.widen (k := 1) (n := 17) (by omega) (by omega) ?_
  refine lv_dup hX_ hB_ dL_law_3 rfl ?_
  have hFc := va_free (wc := [(x0, .inr (0, sd_fX0))]) hD hS hA [0] rfl
  refine va_callv (va_runI (As := []) (rest := [.ref x0]) E.1 (m_Xinit l D d x0 H.size) (cwI 0 hts (lw_meth q23) rfl rfl rfl (hts _ q14) (hts _ q21) (hts _ q22) rfl (by decide +kernel) ⟨Nat.le_of_ble_eq_true rfl, Nat.le_of_ble_eq_true rfl⟩) (sd_preS E ⟨hP, hD, hS⟩ [.ref x0]) rfl rfl hl.1 rfl (Nat.le_of_ble_eq_true rfl) dL_law_4 ⟨Nat.le_of_ble_eq_true rfl, Nat.le_of_ble_eq_true rfl⟩) hS (fun q _ h => hFc q h) hFc (fun hx t H1 locs1 ht hvm hw hB hz1 hk1 hS => ?_)
  obtain ⟨hP1, hD1⟩ := hB
  rw [ht] at hP1
  obtain ⟨hP, hD⟩ := va_join (wr := []) (w1 := sd_wX hx d sd_X0) hP hD [0] [] rfl rfl (by decide) (by decide) hk1 hFc hP1 hD1
  have hw : hx 0 = x0 := hw
  rw [← hw]
  generalize H1 = H at hP hS ⊢
  generalize locs1 = locs at hS ⊢
  have hP : va_P D vwCl (sd_wX hx d sd_X0) H := hP
  have hD : va_D (fun q : Nat => s.heap.size ≤ q) (sd_wX hx d sd_X0) := hD
  refine W.widen (k := 11) (n := 1425) (by omega) (by omega) ?_
  refine lv_astore_n (lv' := [(1, .ref (hx 0)), (0, .ref b)]) hX_ hB_ dL_law_7 rfl hl (by decide) rfl (fun ls hl => ?_)
  refine va_new (D := D) (ci := 1) (fs := sd_fM0) (C := RX1) (T := TX1) (N := 7) hX_ hB_ hts in_X1 tyX1 tyX1_ok hown (hts _ q166) (hts _ q167) (hts _ q15) hK hP hD hS hA rfl (fun j hj => by rcases (show j = 0 ∨ j = 1 ∨ j = 2 ∨ j = 3 ∨ j = 4 ∨ j = 5 ∨ j = 6 by omega) with rfl | rfl | rfl | rfl | rfl | rfl | rfl <;> rfl) (Nat.le_of_ble_eq_true rfl) (Nat.le_of_ble_eq_true rfl) dL_law_8 (fun m0 H hP hD hS => ?_)
  have hP : va_P D vwCl (sd_wX hx d sd_X0 ++ [(m0, .inr (1, sd_fM0))]) H := hP
  have hD : va_D (fun q : Nat => s.heap.size ≤ q) (sd_wX hx d sd_X0 ++ [(m0, .inr (1, sd_fM0))]) := hD
  refine W.widen (k := 12) (n := 1432) (by omega) (by omega) ?_
  refine lv_dup hX_ hB_ dL_law_11 rfl ?_
  have hPc := hP.sub (ws' := [(m0, .inr (1, sd_fM0))]) [11] rfl
  have hDc := hD.sub (ws' := [(m0, .inr (1, sd_fM0))]) [11] (by decide) rfl
  have hFc := va_free (wc := [(m0, .inr (1, sd_fM0))]) hD hS hA [11] rfl
  refine va_callv (va_runI (As := []) (rest := [.ref m0]) E.1 (m_Minit l D d m0 H.size) (cwI 0 hts (lw_meth q170) rfl rfl rfl (hts _ q15) (hts _ q168) (hts _ q169) rfl (by decide +kernel) ⟨Nat.le_of_ble_eq_true rfl, Nat.le_of_ble_eq_true rfl⟩) (sd_preS E ⟨hPc, hDc, hS⟩ [.ref m0]) rfl rfl hl.1 rfl (Nat.le_of_ble_eq_true rfl) dL_law_12 ⟨Nat.le_of_ble_eq_true rfl, Nat.le_of_ble_eq_true rfl⟩) hS (fun q _ h => hFc q h) hFc (fun hm t H1 locs1 ht hvm hw2 hB hz1 hk1 hS => ?_)
  obtain ⟨hP1, hD1⟩ := hB
  rw [ht] at hP1
  obtain ⟨hP, hD⟩ := va_join (wr := sd_wX hx d sd_X0) (w1 := sd_wM hm d sd_M0) hP hD [11] [0, 1, 2, 3, 4, 5, 6, 7, 8, 9, 10] rfl rfl (by decide) (by decide) hk1 hFc hP1 hD1
  have hw2 : hm 0 = m0 := hw2
  rw [← hw2]
  generalize H1 = H at hP hS ⊢
  generalize locs1 = locs at hS ⊢
  have hW : sd_W D (fun q : Nat => s.heap.size ≤ q) s.heap (sd_wX hx d sd_X0 ++ sd_wM hm d sd_M0) H locs := ⟨hP, hD, hS⟩
  refine W.widen (k := 18) (n := 2024) (by omega) (by omega) ?_
  refine lv_astore_n (lv' := [(2, .ref (hm 0)), (1, .ref (hx 0)), (0, .ref b)]) hX_ hB_ dL_law_15 rfl hl (by decide) rfl (fun ls hl => ?_)
  refine lv_iconst (v := nI 0) hX_ hB_ dL_law_16 (by decide) ?_
  refine lv_istore_n (lv' := [(3, .int (nI 0)), (2, .ref (hm 0)), (1, .ref (hx 0)), (0, .ref b)]) hX_ hB_ dL_law_17 rfl hl (by decide) rfl (fun ls hl => ?_)
  refine sd_loop3 (fun nn (i : Nat) (X M : Nat → Nat → Nat) H locs ls => nn = L - i ∧ (i ≤ L) ∧ (∃ n g F, sd_XI n g F X ∧ sd_MB n g F M) ∧ sd_W D (fun q : Nat => s.heap.size ≤ q) s.heap (sd_wX hx d X ++ sd_wM hm d M) H locs ∧ lv_has ls 4 [(0, .ref b), (1, .ref (hx 0)), (2, .ref (hm 0)), (3, .int (nI i))]) (fun nn i X M H locs ls hI ih => ?_) _ 0 sd_X0 sd_M0 _ _ _ ⟨rfl, Nat.zero_le _, ⟨_, _, _, sd_X0_ok, sd_M0_ok⟩, hW, lv_sub hl [3, 2, 1, 0] rfl⟩
  obtain ⟨rfl, hi, ⟨n, g, F, hXI, hMB⟩, hW, hl⟩ := hI
  refine lv_iload_n hX_ hB_ dL_law_18 rfl (lv_at hl 3 rfl) ?_
  refine lv_aload_n hX_ hB_ dL_law_19 rfl (lv_at hl 0 rfl) ?_
  refine va_slen hX_ hB_ hX hbl hbA hW.2.2 dL_law_20 ?_
  refine lv_iconst (v := nI 5) hX_ hB_ dL_law_21 (by decide) ?_
  refine lv_isub hX_ hB_ dL_law_22 ?_
  refine lv_icmp_gt (tgt := 337) hX_ hB_ dL_law_23 (by decide) (fun c_1 => ?_) (fun c_1 => ?_)
  · refine lv_iconst (v := 1) hX_ hB_ dL_law_337 (by decide) ?_
    refine va_forget (fun q hq => hW.2.2.2.2 q hq) ?_
    refine W.widen (k := 600000) (n := 7290000) (by decide) (by decide) ?_
    exact lw_ret hX_ hB_ hr hlk dL_law_338
  have hlt : i + 5 ≤ L := Nat.not_lt.mp (fun z => c_1 ((sd_5 (L := L) (i := i) (by omega) (by omega)).mpr z))
  refine lv_aload_n hX_ hB_ dL_law_26 rfl (lv_at hl 0 rfl) ?_
  refine lv_iload_n hX_ hB_ dL_law_27 rfl (lv_at hl 3 rfl) ?_
  refine sd_sld hX_ hB_ hX hbl hbA hW.2.2 hys (j := i) (by omega) (by omega) dL_law_28 ?_
  refine lv_bipush (v := nI 7) hX_ hB_ dL_law_29 (by decide) ?_
  refine sd_iandE (sd_and7 _) hX_ hB_ dL_law_31 ?_
  obtain ⟨t, et⟩ : ∃ t, t = ys i % 8 := ⟨_, rfl⟩
  rw [← et]
  have ht8 : t < 8 := by omega
  refine sd_cutH (fun (z : (Nat → Nat → Nat) × (Nat → Nat → Nat)) H locs ls => (∃ n g F, sd_XI n g F z.1 ∧ sd_MB n g F z.2) ∧ sd_W D (fun q : Nat => s.heap.size ≤ q) s.heap (sd_wX hx d z.1 ++ sd_wM hm d z.2) H locs ∧ lv_has ls 4 [(0, .ref b), (1, .ref (hx 0)), (2, .ref (hm 0)), (3, .int (nI i))]) (fun z ls => F0 m 331 ls []) (fun z H locs ls hz => ?_) (fun J => ?_)
  · obtain ⟨hrel, hW, hl⟩ := hz
    refine lv_iinc (v := nI (i + 5)) (lv' := [(3, .int (nI (i + 5))), (0, .ref b), (1, .ref (hx 0)), (2, .ref (hm 0))]) hX_ hB_ dL_law_331 hl (k := 3) rfl (sd_inc5 i) (by decide) rfl (fun ls hl => ?_)
    refine lv_goto (tgt := 18) hX_ hB_ dL_law_334 (by decide) ?_
    exact ih _ (i + 5) z.1 z.2 H locs ls (by omega) ⟨rfl, by omega, hrel, hW, lv_sub hl [1, 2, 3, 0] rfl⟩
  rcases (show t = 0 ∨ t = 1 ∨ t = 2 ∨ t = 3 ∨ t = 4 ∨ t = 5 ∨ t = 6 ∨ t = 7 by omega) with rfl | rfl | rfl | rfl | rfl | rfl | rfl | rfl
  · skip
    refine lv_tableIn (tgt := 80) hX_ hB_ dL_law_32 (by decide) (by decide) rfl (by decide) ?_
    refine lv_aload_n hX_ hB_ dL_law_80 rfl (lv_at hl 1 rfl) ?_
    refine lv_aload_n hX_ hB_ dL_law_81 rfl (lv_at hl 0 rfl) ?_
    refine lv_iload_n hX_ hB_ dL_law_82 rfl (lv_at hl 3 rfl) ?_
    refine lv_iconst (v := nI 1) hX_ hB_ dL_law_83 (by decide) ?_
    refine sd_iadd hX_ hB_ dL_law_84 ?_
    refine sd_sld hX_ hB_ hX hbl hbA hW.2.2 hys (j := i + 1) (by omega) (by omega) dL_law_85 ?_
    refine sd_lVv (y := yX0_states) (by_ := cX0_states) E hW hA [.int (nI (ys (i + 1)))] rfl rfl (m_Xstates l D d hx X (v := ys (i + 1)) _) (cwV 1 hts (lw_V q82 q83 q84 q14 q85) rfl rfl rfl (by decide +kernel) ⟨Nat.le_of_ble_eq_true rfl, Nat.le_of_ble_eq_true rfl⟩) rfl (fun _ => rfl) hl.1 rfl (Nat.le_of_ble_eq_true rfl) dL_law_86 ⟨Nat.le_of_ble_eq_true rfl, Nat.le_of_ble_eq_true rfl⟩ (fun u H locs hw1 hW => ?_)
    refine lv_aload_n hX_ hB_ dL_law_89 rfl (lv_at hl 2 rfl) ?_
    refine lv_aload_n hX_ hB_ dL_law_90 rfl (lv_at hl 0 rfl) ?_
    refine lv_iload_n hX_ hB_ dL_law_91 rfl (lv_at hl 3 rfl) ?_
    refine lv_iconst (v := nI 1) hX_ hB_ dL_law_92 (by decide) ?_
    refine sd_iadd hX_ hB_ dL_law_93 ?_
    refine sd_sld hX_ hB_ hX hbl hbA hW.2.2 hys (j := i + 1) (by omega) (by omega) dL_law_94 ?_
    have hW := hW.swap
    refine sd_lVv (y := yX1_states) (by_ := cX1_states) E hW hA [.int (nI (ys (i + 1)))] rfl rfl (m_Mstates l D d hm M (v := ys (i + 1)) _) (cwV 1 hts (lw_V q194 q195 q196 q15 q197) rfl rfl rfl (by decide +kernel) ⟨Nat.le_of_ble_eq_true rfl, Nat.le_of_ble_eq_true rfl⟩) rfl (fun _ => rfl) hl.1 rfl (Nat.le_of_ble_eq_true rfl) dL_law_95 ⟨Nat.le_of_ble_eq_true rfl, Nat.le_of_ble_eq_true rfl⟩ (fun u2 H locs hw2 hW => ?_)
    have hW := hW.swap
    refine lv_goto (tgt := 331) hX_ hB_ dL_law_98 (by decide) ?_
    exact J (u, u2) H locs ls ⟨⟨_, _, _, hw1, hw2⟩, hW, lv_sub hl [0, 1, 2, 3] rfl⟩
  · skip
    refine lv_tableIn (tgt := 101) hX_ hB_ dL_law_32 (by decide) (by decide) rfl (by decide) ?_
    refine lv_aload_n hX_ hB_ dL_law_101 rfl (lv_at hl 1 rfl) ?_
    refine lv_aload_n hX_ hB_ dL_law_102 rfl (lv_at hl 0 rfl) ?_
    refine lv_iload_n hX_ hB_ dL_law_103 rfl (lv_at hl 3 rfl) ?_
    refine lv_iconst (v := nI 1) hX_ hB_ dL_law_104 (by decide) ?_
    refine sd_iadd hX_ hB_ dL_law_105 ?_
    refine sd_sld hX_ hB_ hX hbl hbA hW.2.2 hys (j := i + 1) (by omega) (by omega) dL_law_106 ?_
    refine lv_aload_n hX_ hB_ dL_law_107 rfl (lv_at hl 0 rfl) ?_
    refine lv_iload_n hX_ hB_ dL_law_108 rfl (lv_at hl 3 rfl) ?_
    refine lv_iconst (v := nI 2) hX_ hB_ dL_law_109 (by decide) ?_
    refine sd_iadd hX_ hB_ dL_law_110 ?_
    refine sd_sld hX_ hB_ hX hbl hbA hW.2.2 hys (j := i + 2) (by omega) (by omega) dL_law_111 ?_
    refine lv_aload_n hX_ hB_ dL_law_112 rfl (lv_at hl 0 rfl) ?_
    refine lv_iload_n hX_ hB_ dL_law_113 rfl (lv_at hl 3 rfl) ?_
    refine lv_iconst (v := nI 3) hX_ hB_ dL_law_114 (by decide) ?_
    refine sd_iadd hX_ hB_ dL_law_115 ?_
    refine sd_sld hX_ hB_ hX hbl hbA hW.2.2 hys (j := i + 3) (by omega) (by omega) dL_law_116 ?_
    refine lv_aload_n hX_ hB_ dL_law_117 rfl (lv_at hl 0 rfl) ?_
    refine lv_iload_n hX_ hB_ dL_law_118 rfl (lv_at hl 3 rfl) ?_
    refine lv_iconst (v := nI 4) hX_ hB_ dL_law_119 (by decide) ?_
    refine sd_iadd hX_ hB_ dL_law_120 ?_
    refine sd_sld hX_ hB_ hX hbl hbA hW.2.2 hys (j := i + 4) (by omega) (by omega) dL_law_121 ?_
    refine sd_lVv (y := yX0_set) (by_ := cX0_set) E hW hA [.int (nI (ys (i + 1))), .int (nI (ys (i + 2))), .int (nI (ys (i + 3))), .int (nI (ys (i + 4)))] rfl rfl (m_Xset l D d hx X hXI.1 (v := ys (i + 1)) (a := ys (i + 2)) (b := ys (i + 3)) (f := ys (i + 4)) _) (cwV 4 hts (lw_V q89 q90 q91 q14 q92) rfl rfl rfl (by decide +kernel) ⟨Nat.le_of_ble_eq_true rfl, Nat.le_of_ble_eq_true rfl⟩) rfl (fun _ => rfl) hl.1 rfl (Nat.le_of_ble_eq_true rfl) dL_law_122 ⟨Nat.le_of_ble_eq_true rfl, Nat.le_of_ble_eq_true rfl⟩ (fun u H locs hw1 hW => ?_)
    refine lv_aload_n hX_ hB_ dL_law_125 rfl (lv_at hl 2 rfl) ?_
    refine lv_aload_n hX_ hB_ dL_law_126 rfl (lv_at hl 0 rfl) ?_
    refine lv_iload_n hX_ hB_ dL_law_127 rfl (lv_at hl 3 rfl) ?_
    refine lv_iconst (v := nI 1) hX_ hB_ dL_law_128 (by decide) ?_
    refine sd_iadd hX_ hB_ dL_law_129 ?_
    refine sd_sld hX_ hB_ hX hbl hbA hW.2.2 hys (j := i + 1) (by omega) (by omega) dL_law_130 ?_
    refine lv_aload_n hX_ hB_ dL_law_131 rfl (lv_at hl 0 rfl) ?_
    refine lv_iload_n hX_ hB_ dL_law_132 rfl (lv_at hl 3 rfl) ?_
    refine lv_iconst (v := nI 2) hX_ hB_ dL_law_133 (by decide) ?_
    refine sd_iadd hX_ hB_ dL_law_134 ?_
    refine sd_sld hX_ hB_ hX hbl hbA hW.2.2 hys (j := i + 2) (by omega) (by omega) dL_law_135 ?_
    refine lv_aload_n hX_ hB_ dL_law_136 rfl (lv_at hl 0 rfl) ?_
    refine lv_iload_n hX_ hB_ dL_law_137 rfl (lv_at hl 3 rfl) ?_
    refine lv_iconst (v := nI 3) hX_ hB_ dL_law_138 (by decide) ?_
    refine sd_iadd hX_ hB_ dL_law_139 ?_
    refine sd_sld hX_ hB_ hX hbl hbA hW.2.2 hys (j := i + 3) (by omega) (by omega) dL_law_140 ?_
    refine lv_aload_n hX_ hB_ dL_law_141 rfl (lv_at hl 0 rfl) ?_
    refine lv_iload_n hX_ hB_ dL_law_142 rfl (lv_at hl 3 rfl) ?_
    refine lv_iconst (v := nI 4) hX_ hB_ dL_law_143 (by decide) ?_
    refine sd_iadd hX_ hB_ dL_law_144 ?_
    refine sd_sld hX_ hB_ hX hbl hbA hW.2.2 hys (j := i + 4) (by omega) (by omega) dL_law_145 ?_
    have hW := hW.swap
    refine sd_lVv (y := yX1_set) (by_ := cX1_set) E hW hA [.int (nI (ys (i + 1))), .int (nI (ys (i + 2))), .int (nI (ys (i + 3))), .int (nI (ys (i + 4)))] rfl rfl (m_Mset l D d hm M hMB (v := ys (i + 1)) (a := ys (i + 2)) (b := ys (i + 3)) (f := ys (i + 4)) _) (cwV 4 hts (lw_V q198 q199 q200 q15 q201) rfl rfl rfl (by decide +kernel) ⟨Nat.le_of_ble_eq_true rfl, Nat.le_of_ble_eq_true rfl⟩) rfl (fun _ => rfl) hl.1 rfl (Nat.le_of_ble_eq_true rfl) dL_law_146 ⟨Nat.le_of_ble_eq_true rfl, Nat.le_of_ble_eq_true rfl⟩ (fun u2 H locs hw2 hW => ?_)
    have hW := hW.swap
    refine lv_goto (tgt := 331) hX_ hB_ dL_law_149 (by decide) ?_
    exact J (u, u2) H locs ls ⟨⟨_, _, _, hw1, hw2⟩, hW, lv_sub hl [0, 1, 2, 3] rfl⟩
  · skip
    refine lv_tableIn (tgt := 152) hX_ hB_ dL_law_32 (by decide) (by decide) rfl (by decide) ?_
    refine lv_aload_n hX_ hB_ dL_law_152 rfl (lv_at hl 1 rfl) ?_
    refine lv_aload_n hX_ hB_ dL_law_153 rfl (lv_at hl 0 rfl) ?_
    refine lv_iload_n hX_ hB_ dL_law_154 rfl (lv_at hl 3 rfl) ?_
    refine lv_iconst (v := nI 1) hX_ hB_ dL_law_155 (by decide) ?_
    refine sd_iadd hX_ hB_ dL_law_156 ?_
    refine sd_sld hX_ hB_ hX hbl hbA hW.2.2 hys (j := i + 1) (by omega) (by omega) dL_law_157 ?_
    refine lv_aload_n hX_ hB_ dL_law_158 rfl (lv_at hl 0 rfl) ?_
    refine lv_iload_n hX_ hB_ dL_law_159 rfl (lv_at hl 3 rfl) ?_
    refine lv_iconst (v := nI 2) hX_ hB_ dL_law_160 (by decide) ?_
    refine sd_iadd hX_ hB_ dL_law_161 ?_
    refine sd_sld hX_ hB_ hX hbl hbA hW.2.2 hys (j := i + 2) (by omega) (by omega) dL_law_162 ?_
    refine lv_aload_n hX_ hB_ dL_law_163 rfl (lv_at hl 0 rfl) ?_
    refine lv_iload_n hX_ hB_ dL_law_164 rfl (lv_at hl 3 rfl) ?_
    refine lv_iconst (v := nI 3) hX_ hB_ dL_law_165 (by decide) ?_
    refine sd_iadd hX_ hB_ dL_law_166 ?_
    refine sd_sld hX_ hB_ hX hbl hbA hW.2.2 hys (j := i + 3) (by omega) (by omega) dL_law_167 ?_
    refine sd_lVi (y := yX0_takes) (by_ := cX0_takes) E hW hA [.int (nI (ys (i + 1))), .int (nI (ys (i + 2))), .int (nI (ys (i + 3)))] rfl rfl (m_Xtakes l D d hx X hXI (v := ys (i + 1)) (a := ys (i + 2)) (k := ys (i + 3)) (hys _).2 _) (cwV 3 hts (lw_V q98 q99 q100 q14 q101) rfl rfl rfl (by decide +kernel) ⟨Nat.le_of_ble_eq_true rfl, Nat.le_of_ble_eq_true rfl⟩) rfl (fun _ => rfl) hl.1 rfl (Nat.le_of_ble_eq_true rfl) dL_law_168 ⟨Nat.le_of_ble_eq_true rfl, Nat.le_of_ble_eq_true rfl⟩ (fun r u H locs hw1 hW => ?_)
    refine lv_aload_n hX_ hB_ dL_law_171 rfl (lv_at hl 2 rfl) ?_
    refine lv_aload_n hX_ hB_ dL_law_172 rfl (lv_at hl 0 rfl) ?_
    refine lv_iload_n hX_ hB_ dL_law_173 rfl (lv_at hl 3 rfl) ?_
    refine lv_iconst (v := nI 1) hX_ hB_ dL_law_174 (by decide) ?_
    refine sd_iadd hX_ hB_ dL_law_175 ?_
    refine sd_sld hX_ hB_ hX hbl hbA hW.2.2 hys (j := i + 1) (by omega) (by omega) dL_law_176 ?_
    refine lv_aload_n hX_ hB_ dL_law_177 rfl (lv_at hl 0 rfl) ?_
    refine lv_iload_n hX_ hB_ dL_law_178 rfl (lv_at hl 3 rfl) ?_
    refine lv_iconst (v := nI 2) hX_ hB_ dL_law_179 (by decide) ?_
    refine sd_iadd hX_ hB_ dL_law_180 ?_
    refine sd_sld hX_ hB_ hX hbl hbA hW.2.2 hys (j := i + 2) (by omega) (by omega) dL_law_181 ?_
    refine lv_aload_n hX_ hB_ dL_law_182 rfl (lv_at hl 0 rfl) ?_
    refine lv_iload_n hX_ hB_ dL_law_183 rfl (lv_at hl 3 rfl) ?_
    refine lv_iconst (v := nI 3) hX_ hB_ dL_law_184 (by decide) ?_
    refine sd_iadd hX_ hB_ dL_law_185 ?_
    refine sd_sld hX_ hB_ hX hbl hbA hW.2.2 hys (j := i + 3) (by omega) (by omega) dL_law_186 ?_
    have hW := hW.swap
    refine sd_lVi (y := yX1_takes) (by_ := cX1_takes) E hW hA [.int (nI (ys (i + 1))), .int (nI (ys (i + 2))), .int (nI (ys (i + 3)))] rfl rfl (m_Mtakes l D d hm M hMB (v := ys (i + 1)) (a := ys (i + 2)) (k := ys (i + 3)) (hys _).2 _) (cwV 3 hts (lw_V q207 q208 q209 q15 q210) rfl rfl rfl (by decide +kernel) ⟨Nat.le_of_ble_eq_true rfl, Nat.le_of_ble_eq_true rfl⟩) rfl (fun _ => rfl) hl.1 rfl (Nat.le_of_ble_eq_true rfl) dL_law_187 ⟨Nat.le_of_ble_eq_true rfl, Nat.le_of_ble_eq_true rfl⟩ (fun r2 u2 H locs hw2 hW => ?_)
    have hW := hW.swap
    refine lv_icmp_eq (tgt := 331) hX_ hB_ dL_law_190 (by decide) (fun _ => ?_) (fun z => absurd (hw1.1.trans hw2.symm) z)
    exact J (u, M) H locs ls ⟨⟨n, g, F, hw1.2.i, hMB⟩, hW, lv_sub hl [0, 1, 2, 3] rfl⟩
  · skip
    refine lv_tableIn (tgt := 195) hX_ hB_ dL_law_32 (by decide) (by decide) rfl (by decide) ?_
    refine lv_aload_n hX_ hB_ dL_law_195 rfl (lv_at hl 1 rfl) ?_
    refine lv_aload_n hX_ hB_ dL_law_196 rfl (lv_at hl 0 rfl) ?_
    refine lv_iload_n hX_ hB_ dL_law_197 rfl (lv_at hl 3 rfl) ?_
    refine lv_iconst (v := nI 1) hX_ hB_ dL_law_198 (by decide) ?_
    refine sd_iadd hX_ hB_ dL_law_199 ?_
    refine sd_sld hX_ hB_ hX hbl hbA hW.2.2 hys (j := i + 1) (by omega) (by omega) dL_law_200 ?_
    refine lv_aload_n hX_ hB_ dL_law_201 rfl (lv_at hl 0 rfl) ?_
    refine lv_iload_n hX_ hB_ dL_law_202 rfl (lv_at hl 3 rfl) ?_
    refine lv_iconst (v := nI 2) hX_ hB_ dL_law_203 (by decide) ?_
    refine sd_iadd hX_ hB_ dL_law_204 ?_
    refine sd_sld hX_ hB_ hX hbl hbA hW.2.2 hys (j := i + 2) (by omega) (by omega) dL_law_205 ?_
    refine sd_lVi (y := yX0_same) (by_ := cX0_same) E hW hA [.int (nI (ys (i + 1))), .int (nI (ys (i + 2)))] rfl rfl (m_Xsame l D d hx X hXI (v := ys (i + 1)) (a := ys (i + 2)) _) (cwV 2 hts (lw_V q140 q141 q142 q14 q143) rfl rfl rfl (by decide +kernel) ⟨Nat.le_of_ble_eq_true rfl, Nat.le_of_ble_eq_true rfl⟩) rfl (fun _ => rfl) hl.1 rfl (Nat.le_of_ble_eq_true rfl) dL_law_206 ⟨Nat.le_of_ble_eq_true rfl, Nat.le_of_ble_eq_true rfl⟩ (fun r u H locs hw1 hW => ?_)
    refine lv_aload_n hX_ hB_ dL_law_209 rfl (lv_at hl 2 rfl) ?_
    refine lv_aload_n hX_ hB_ dL_law_210 rfl (lv_at hl 0 rfl) ?_
    refine lv_iload_n hX_ hB_ dL_law_211 rfl (lv_at hl 3 rfl) ?_
    refine lv_iconst (v := nI 1) hX_ hB_ dL_law_212 (by decide) ?_
    refine sd_iadd hX_ hB_ dL_law_213 ?_
    refine sd_sld hX_ hB_ hX hbl hbA hW.2.2 hys (j := i + 1) (by omega) (by omega) dL_law_214 ?_
    refine lv_aload_n hX_ hB_ dL_law_215 rfl (lv_at hl 0 rfl) ?_
    refine lv_iload_n hX_ hB_ dL_law_216 rfl (lv_at hl 3 rfl) ?_
    refine lv_iconst (v := nI 2) hX_ hB_ dL_law_217 (by decide) ?_
    refine sd_iadd hX_ hB_ dL_law_218 ?_
    refine sd_sld hX_ hB_ hX hbl hbA hW.2.2 hys (j := i + 2) (by omega) (by omega) dL_law_219 ?_
    have hW := hW.swap
    refine sd_lVi (y := yX1_same) (by_ := cX1_same) E hW hA [.int (nI (ys (i + 1))), .int (nI (ys (i + 2)))] rfl rfl (m_Msame l D d hm M hMB (v := ys (i + 1)) (a := ys (i + 2)) _) (cwV 2 hts (lw_V q215 q216 q217 q15 q218) rfl rfl rfl (by decide +kernel) ⟨Nat.le_of_ble_eq_true rfl, Nat.le_of_ble_eq_true rfl⟩) rfl (fun _ => rfl) hl.1 rfl (Nat.le_of_ble_eq_true rfl) dL_law_220 ⟨Nat.le_of_ble_eq_true rfl, Nat.le_of_ble_eq_true rfl⟩ (fun r2 u2 H locs hw2 hW => ?_)
    have hW := hW.swap
    refine lv_icmp_eq (tgt := 331) hX_ hB_ dL_law_223 (by decide) (fun _ => ?_) (fun z => absurd (hw1.1.trans hw2.1.symm) z)
    exact J (u, u2) H locs ls ⟨⟨n, g, F, hw1.2.i, hw2.2⟩, hW, lv_sub hl [0, 1, 2, 3] rfl⟩
  · skip
    refine lv_tableIn (tgt := 228) hX_ hB_ dL_law_32 (by decide) (by decide) rfl (by decide) ?_
    refine lv_aload_n hX_ hB_ dL_law_228 rfl (lv_at hl 1 rfl) ?_
    refine sd_lVi (y := yX0_kinds) (by_ := cX0_kinds) E hW hA [] rfl rfl (m_Xkinds l D d hx X hXI _) (cwV 0 hts (lw_V q144 q145 q146 q14 q147) rfl rfl rfl (by decide +kernel) ⟨Nat.le_of_ble_eq_true rfl, Nat.le_of_ble_eq_true rfl⟩) rfl (fun _ => rfl) hl.1 rfl (Nat.le_of_ble_eq_true rfl) dL_law_229 ⟨Nat.le_of_ble_eq_true rfl, Nat.le_of_ble_eq_true rfl⟩ (fun r u H locs hw1 hW => ?_)
    refine lv_aload_n hX_ hB_ dL_law_232 rfl (lv_at hl 2 rfl) ?_
    have hW := hW.swap
    refine sd_lVi (y := yX1_kinds) (by_ := cX1_kinds) E hW hA [] rfl rfl (m_Mkinds l D d hm M hMB _) (cwV 0 hts (lw_V q223 q224 q225 q15 q226) rfl rfl rfl (by decide +kernel) ⟨Nat.le_of_ble_eq_true rfl, Nat.le_of_ble_eq_true rfl⟩) rfl (fun _ => rfl) hl.1 rfl (Nat.le_of_ble_eq_true rfl) dL_law_233 ⟨Nat.le_of_ble_eq_true rfl, Nat.le_of_ble_eq_true rfl⟩ (fun r2 u2 H locs hw2 hW => ?_)
    have hW := hW.swap
    refine lv_icmp_eq (tgt := 331) hX_ hB_ dL_law_236 (by decide) (fun _ => ?_) (fun z => absurd (hw1.1.trans hw2.1.symm) z)
    exact J (u, u2) H locs ls ⟨⟨n, g, F, hw1.2.i, hw2.2⟩, hW, lv_sub hl [0, 1, 2, 3] rfl⟩
  · skip
    refine lv_tableIn (tgt := 241) hX_ hB_ dL_law_32 (by decide) (by decide) rfl (by decide) ?_
    refine lv_aload_n hX_ hB_ dL_law_241 rfl (lv_at hl 1 rfl) ?_
    refine lv_aload_n hX_ hB_ dL_law_242 rfl (lv_at hl 0 rfl) ?_
    refine lv_iload_n hX_ hB_ dL_law_243 rfl (lv_at hl 3 rfl) ?_
    refine lv_iconst (v := nI 1) hX_ hB_ dL_law_244 (by decide) ?_
    refine sd_iadd hX_ hB_ dL_law_245 ?_
    refine sd_sld hX_ hB_ hX hbl hbA hW.2.2 hys (j := i + 1) (by omega) (by omega) dL_law_246 ?_
    refine sd_lVi (y := yX0_needed) (by_ := cX0_needed) E hW hA [.int (nI (ys (i + 1)))] rfl rfl (m_Xneeded l D d hx X hXI (v := ys (i + 1)) _) (cwV 1 hts (lw_V q148 q149 q150 q14 q151) rfl rfl rfl (by decide +kernel) ⟨Nat.le_of_ble_eq_true rfl, Nat.le_of_ble_eq_true rfl⟩) rfl (fun _ => rfl) hl.1 rfl (Nat.le_of_ble_eq_true rfl) dL_law_247 ⟨Nat.le_of_ble_eq_true rfl, Nat.le_of_ble_eq_true rfl⟩ (fun r u H locs hw1 hW => ?_)
    refine lv_aload_n hX_ hB_ dL_law_250 rfl (lv_at hl 2 rfl) ?_
    refine lv_aload_n hX_ hB_ dL_law_251 rfl (lv_at hl 0 rfl) ?_
    refine lv_iload_n hX_ hB_ dL_law_252 rfl (lv_at hl 3 rfl) ?_
    refine lv_iconst (v := nI 1) hX_ hB_ dL_law_253 (by decide) ?_
    refine sd_iadd hX_ hB_ dL_law_254 ?_
    refine sd_sld hX_ hB_ hX hbl hbA hW.2.2 hys (j := i + 1) (by omega) (by omega) dL_law_255 ?_
    have hW := hW.swap
    refine sd_lVi (y := yX1_needed) (by_ := cX1_needed) E hW hA [.int (nI (ys (i + 1)))] rfl rfl (m_Mneeded l D d hm M hMB (v := ys (i + 1)) _) (cwV 1 hts (lw_V q227 q228 q229 q15 q230) rfl rfl rfl (by decide +kernel) ⟨Nat.le_of_ble_eq_true rfl, Nat.le_of_ble_eq_true rfl⟩) rfl (fun _ => rfl) hl.1 rfl (Nat.le_of_ble_eq_true rfl) dL_law_256 ⟨Nat.le_of_ble_eq_true rfl, Nat.le_of_ble_eq_true rfl⟩ (fun r2 u2 H locs hw2 hW => ?_)
    have hW := hW.swap
    refine lv_icmp_eq (tgt := 331) hX_ hB_ dL_law_259 (by decide) (fun _ => ?_) (fun z => absurd (hw1.1.trans hw2.1.symm) z)
    exact J (u, u2) H locs ls ⟨⟨n, g, F, hw1.2.i, hw2.2⟩, hW, lv_sub hl [0, 1, 2, 3] rfl⟩
  · skip
    refine lv_tableIn (tgt := 264) hX_ hB_ dL_law_32 (by decide) (by decide) rfl (by decide) ?_
    refine lv_aload_n hX_ hB_ dL_law_264 rfl (lv_at hl 1 rfl) ?_
    refine lv_aload_n hX_ hB_ dL_law_265 rfl (lv_at hl 0 rfl) ?_
    refine lv_iload_n hX_ hB_ dL_law_266 rfl (lv_at hl 3 rfl) ?_
    refine lv_iconst (v := nI 1) hX_ hB_ dL_law_267 (by decide) ?_
    refine sd_iadd hX_ hB_ dL_law_268 ?_
    refine sd_sld hX_ hB_ hX hbl hbA hW.2.2 hys (j := i + 1) (by omega) (by omega) dL_law_269 ?_
    refine lv_aload_n hX_ hB_ dL_law_270 rfl (lv_at hl 0 rfl) ?_
    refine lv_iload_n hX_ hB_ dL_law_271 rfl (lv_at hl 3 rfl) ?_
    refine lv_iconst (v := nI 2) hX_ hB_ dL_law_272 (by decide) ?_
    refine sd_iadd hX_ hB_ dL_law_273 ?_
    refine sd_sld hX_ hB_ hX hbl hbA hW.2.2 hys (j := i + 2) (by omega) (by omega) dL_law_274 ?_
    refine sd_lVi (y := yX0_witness) (by_ := cX0_witness) E hW hA [.int (nI (ys (i + 1))), .int (nI (ys (i + 2)))] rfl rfl (m_Xwitness l D d hx X hXI (v := ys (i + 1)) (a := ys (i + 2)) _) (cwV 2 hts (lw_V q152 q153 q154 q14 q155) rfl rfl rfl (by decide +kernel) ⟨Nat.le_of_ble_eq_true rfl, Nat.le_of_ble_eq_true rfl⟩) rfl (fun _ => rfl) hl.1 rfl (Nat.le_of_ble_eq_true rfl) dL_law_275 ⟨Nat.le_of_ble_eq_true rfl, Nat.le_of_ble_eq_true rfl⟩ (fun r u H locs hw1 hW => ?_)
    refine lv_aload_n hX_ hB_ dL_law_278 rfl (lv_at hl 2 rfl) ?_
    refine lv_aload_n hX_ hB_ dL_law_279 rfl (lv_at hl 0 rfl) ?_
    refine lv_iload_n hX_ hB_ dL_law_280 rfl (lv_at hl 3 rfl) ?_
    refine lv_iconst (v := nI 1) hX_ hB_ dL_law_281 (by decide) ?_
    refine sd_iadd hX_ hB_ dL_law_282 ?_
    refine sd_sld hX_ hB_ hX hbl hbA hW.2.2 hys (j := i + 1) (by omega) (by omega) dL_law_283 ?_
    refine lv_aload_n hX_ hB_ dL_law_284 rfl (lv_at hl 0 rfl) ?_
    refine lv_iload_n hX_ hB_ dL_law_285 rfl (lv_at hl 3 rfl) ?_
    refine lv_iconst (v := nI 2) hX_ hB_ dL_law_286 (by decide) ?_
    refine sd_iadd hX_ hB_ dL_law_287 ?_
    refine sd_sld hX_ hB_ hX hbl hbA hW.2.2 hys (j := i + 2) (by omega) (by omega) dL_law_288 ?_
    have hW := hW.swap
    refine sd_lVi (y := yX1_witness) (by_ := cX1_witness) E hW hA [.int (nI (ys (i + 1))), .int (nI (ys (i + 2)))] rfl rfl (m_Mwitness l D d hm M hMB (v := ys (i + 1)) (a := ys (i + 2)) _) (cwV 2 hts (lw_V q231 q232 q233 q15 q234) rfl rfl rfl (by decide +kernel) ⟨Nat.le_of_ble_eq_true rfl, Nat.le_of_ble_eq_true rfl⟩) rfl (fun _ => rfl) hl.1 rfl (Nat.le_of_ble_eq_true rfl) dL_law_289 ⟨Nat.le_of_ble_eq_true rfl, Nat.le_of_ble_eq_true rfl⟩ (fun r2 u2 H locs hw2 hW => ?_)
    have hW := hW.swap
    obtain ⟨⟨z1, e1, w1⟩, hQ⟩ := hw1
    obtain ⟨⟨z2, e2, w2⟩, hMB2⟩ := hw2
    have ez : r = r2 := by rw [e1, e2, dm_wi_one w1 w2]
    refine lv_icmp_eq (tgt := 331) hX_ hB_ dL_law_292 (by decide) (fun _ => ?_) (fun z => absurd ez z)
    exact J (u, u2) H locs ls ⟨⟨n, g, F, hQ.i, hMB2⟩, hW, lv_sub hl [0, 1, 2, 3] rfl⟩
  · skip
    refine lv_tableIn (tgt := 297) hX_ hB_ dL_law_32 (by decide) (by decide) rfl (by decide) ?_
    refine lv_aload_n hX_ hB_ dL_law_297 rfl (lv_at hl 1 rfl) ?_
    refine lv_aload_n hX_ hB_ dL_law_298 rfl (lv_at hl 0 rfl) ?_
    refine lv_iload_n hX_ hB_ dL_law_299 rfl (lv_at hl 3 rfl) ?_
    refine lv_iconst (v := nI 1) hX_ hB_ dL_law_300 (by decide) ?_
    refine sd_iadd hX_ hB_ dL_law_301 ?_
    refine sd_sld hX_ hB_ hX hbl hbA hW.2.2 hys (j := i + 1) (by omega) (by omega) dL_law_302 ?_
    refine lv_aload_n hX_ hB_ dL_law_303 rfl (lv_at hl 0 rfl) ?_
    refine lv_iload_n hX_ hB_ dL_law_304 rfl (lv_at hl 3 rfl) ?_
    refine lv_iconst (v := nI 2) hX_ hB_ dL_law_305 (by decide) ?_
    refine sd_iadd hX_ hB_ dL_law_306 ?_
    refine sd_sld hX_ hB_ hX hbl hbA hW.2.2 hys (j := i + 2) (by omega) (by omega) dL_law_307 ?_
    refine sd_lVl (y := yX0_words) (by_ := cX0_words) E hW hA [.int (nI (ys (i + 1))), .int (nI (ys (i + 2)))] rfl rfl (m_Xwords l D d hx X hXI (v := ys (i + 1)) (a := ys (i + 2)) _) (cwV 2 hts (lw_V q159 q160 q161 q14 q162) rfl rfl rfl (by decide +kernel) ⟨Nat.le_of_ble_eq_true rfl, Nat.le_of_ble_eq_true rfl⟩) rfl (fun _ => rfl) hl.1 rfl (Nat.le_of_ble_eq_true rfl) dL_law_308 ⟨Nat.le_of_ble_eq_true rfl, Nat.le_of_ble_eq_true rfl⟩ (fun r u H locs hw1 hW => ?_)
    refine lv_aload_n hX_ hB_ dL_law_311 rfl (lv_at hl 2 rfl) ?_
    refine lv_aload_n hX_ hB_ dL_law_312 rfl (lv_at hl 0 rfl) ?_
    refine lv_iload_n hX_ hB_ dL_law_313 rfl (lv_at hl 3 rfl) ?_
    refine lv_iconst (v := nI 1) hX_ hB_ dL_law_314 (by decide) ?_
    refine sd_iadd hX_ hB_ dL_law_315 ?_
    refine sd_sld hX_ hB_ hX hbl hbA hW.2.2 hys (j := i + 1) (by omega) (by omega) dL_law_316 ?_
    refine lv_aload_n hX_ hB_ dL_law_317 rfl (lv_at hl 0 rfl) ?_
    refine lv_iload_n hX_ hB_ dL_law_318 rfl (lv_at hl 3 rfl) ?_
    refine lv_iconst (v := nI 2) hX_ hB_ dL_law_319 (by decide) ?_
    refine sd_iadd hX_ hB_ dL_law_320 ?_
    refine sd_sld hX_ hB_ hX hbl hbA hW.2.2 hys (j := i + 2) (by omega) (by omega) dL_law_321 ?_
    have hW := hW.swap
    refine sd_lVl (y := yX1_words) (by_ := cX1_words) E hW hA [.int (nI (ys (i + 1))), .int (nI (ys (i + 2)))] rfl rfl (m_Mwords l D d hm M hMB (v := ys (i + 1)) (a := ys (i + 2)) _) (cwV 2 hts (lw_V q240 q241 q242 q15 q243) rfl rfl rfl (by decide +kernel) ⟨Nat.le_of_ble_eq_true rfl, Nat.le_of_ble_eq_true rfl⟩) rfl (fun _ => rfl) hl.1 rfl (Nat.le_of_ble_eq_true rfl) dL_law_322 ⟨Nat.le_of_ble_eq_true rfl, Nat.le_of_ble_eq_true rfl⟩ (fun r2 u2 H locs hw2 hW => ?_)
    have hW := hW.swap
    have ez : r2 = r := hw2.1.trans hw1.1.symm
    refine W.lcmp hX_ hB_ dL_law_325 ?_
    rw [ez, sd_cmp0]
    refine lv_if_eq (tgt := 331) hX_ hB_ dL_law_326 (by decide) (fun _ => ?_) (fun z => absurd rfl z)
    exact J (u, u2) H locs ls ⟨⟨n, g, F, hw1.2.i, hw2.2⟩, hW, lv_sub hl [0, 1, 2, 3] rfl⟩
end
section
set_option maxHeartbeats 4000000 in
theorem lw_walk (l : Launch) (b : Addr) (xs : List Int32) : MetFree l x (headSpec (Jvm.Cond.code x code maxLocals ret :: tables_1) room_1) (lw_P b xs) (fun _ _ _ _ _ => True) lw_Q := by
  refine MetFree.of_bodyS (code := code) (maxLocals := maxLocals) (ret := ret) (by decide) ?_ ?_
  · intro args s m h hn
    obtain ⟨meth, c, h1, h2, h3, h4, h5, h6, -, -⟩ := Cond.code_spec hn (atoms_spec (ws := Jvm.Cond.code x code maxLocals ret :: tables_1) h _ List.mem_cons_self)
    exact ⟨meth, c, h1, h2, h3, h4, h5, h6⟩
  · intro p e s m args below meth c s₁ B hml0 hP _
    obtain ⟨rfl, hx, hbd, hgv⟩ := hP
    obtain ⟨scr, harrAt, hlist, hof, hsmall⟩ := hx
    obtain ⟨hcb, hkn, -, -⟩ := State.arrayAt?_spec harrAt
    have hown : s.vm.findClass R_law = some m.cls := findClass_of_methodNamed B.named
    have hts0 : ∀ c ∈ (Jvm.Cond.code x code maxLocals ret :: tables_1), c.before #[Value.ref b] s = true := atoms_spec (ws := Jvm.Cond.code x code maxLocals ret :: tables_1) B.pre
    have hts : ∀ w ∈ lw_tbl, w.before #[Value.ref b] s = true := k2_hts_sels lw_privs (fun w hw => hts0 w (List.mem_cons_of_mem _ hw)) lw_privs_ok
    have hml : c.maxLocals = 4 := B.maxLocals_eq (hts0 _ List.mem_cons_self)
    have X₀ : Stand p l e room_1 s m #[Value.ref b] below meth c s₁ [] 0 0 := Stand.of_body B
    have hh0 : s₁.heap = s.heap := by rw [B.state]; rfl
    have hsz : scr.slots.size = xs.length := by rw [← Array.length_toList, hlist, List.length_map]
    have hval : ∀ j : Nat, j < xs.length → scr.slots[j]? = some (.int (xs.getD j 0)) := fun j hj => by
      rw [← Array.getElem?_toList, hlist]
      simp [hj]
    have hbl : b < s.heap.size := (Array.getElem?_eq_some_iff.mp hcb).1
    have hX : va_X b xs.length (fun j => xs.getD j 0) s s.heap := ⟨scr, hcb, hof, hkn, hsz, hval⟩
    have K : W p l e room_1 s m #[Value.ref b] below meth c s₁.heap [] 0 0 (lw_Z below #[Value.ref b] s) (entryFrame m ([Value.ref b] : List Value).toArray 4) := by
      rw [hh0]
      exact whole_start l hbd ⟨B.exec, B.bytes, B.returns, hml, hown, hts, hX, hbl, B.notSynchronized, hgv⟩
    obtain ⟨t, a1, o, b1, b2, b3⟩ := K s₁ rfl X₀
    exact ⟨t, o, a1, b1, b2, b3⟩
theorem lw_pre_spec {args : Array Value} {s : State} (h : (Jvm.Cond.and given_1 narrow_1).before args s = true) (hr : rest_1_c.before args s = true) : ∃ (b : Addr) (xs : List Int32), lw_P b xs args s := by
  have hs := flat_of_before _ h
  have hq := flat_of_before _ hr
  have hc : (Cond.count 1).before args s = true := hs _ (by decide +kernel)
  have harr : (Cond.arrayOf (.arg 0) .int).before args s = true := hs _ (by decide +kernel)
  have hle : (Cond.le (.length (.arg 0)) (.int 320)).before args s = true := hs _ (by decide +kernel)
  have hlen : (Cond.isInt (.length (.arg 0))).before args s = true := hq _ (by decide +kernel)
  have hall : (Cond.all (.arg 0) (.isInt (.elem (.arg 0) (.index 0)))).before args s = true := hq _ (by decide +kernel)
  obtain ⟨b, xs, hb, hx⟩ := State.ints_of_pre rfl harr hlen hall
  have hsm : xs.length < 2 ^ 31 := hx.choose_spec.2.2.2
  have hev : (Term.length (.arg 0)).eval args s none [] s = some (.int xs.length.toInt32) := hx.length_eval hb
  have hv := Cond.le_ints hev (show (Term.int 320).eval args s none [] s = some (.int 320) from rfl)
  have hd : xs.length.toInt32 ≤ 320 := by
    simpa [Cond.before, Cond.holds, hv] using hle
  have hN : xs.length ≤ 320 := (Int32.ofNat_le_ofNat hsm (by decide)).mp (show Int32.ofNat xs.length ≤ Int32.ofNat 320 from hd)
  exact ⟨b, xs, Cond.one_arg hc (show args[0]? = some (.ref b) from hb), hx, hN, h⟩
theorem lw_comes (l : Launch) : Comes l x (Jvm.Cond.code x code maxLocals ret :: tables_1) room_1 (fun tb e args s => Calls_1 tb e args s ∧ rest_1 tb e args s ∧ Pre_1 tb e args s)
    (fun _ _ args s o t => lw_Q args s o t) := by
  intro p e ha hc hk s m args below hf hfit hheap happ hpre
  obtain ⟨b, xs, hP⟩ := lw_pre_spec hpre.2.2 hpre.2.1
  obtain ⟨k, o, h1, h2, h3, hQ⟩ := lw_walk l b xs p e ha hc hk s m args below hf ((Spec.applies_iff_loose hf).mp happ).1 hP trivial
  exact ⟨k, o, h1, h2, h3, hQ⟩
theorem lw_frame {s t : State} {o : Outcome} {args : Array Value} (h : Framed s o t [] 600000 7290000) :
    Framed s o t (fieldLocs frame_1_writes args s ++ arrayLocs frame_1_arrays args s ++ staticLocs frame_1_statics s) 600000 7290000 := h
theorem lw_limb (L : Cond) (hL : ∀ (args : Array Value) (s t : State), L.after args s (.returned (some (.int 1))) t = true) :
    ArmFor flags0 classFile x code maxLocals ret World_1 tables_1 room_1 Calls_1 rest_1 Pre_1
      (fun tb e a s o t => postC L tb e a s o t ∧ Framed s o t (fieldLocs frame_1_writes a s ++ arrayLocs frame_1_arrays a s ++ staticLocs frame_1_statics s) 600000 7290000) := by
  intro l _ _ _ p e ha hc hk s m args below hf hfit hheap happ hpre
  obtain ⟨k, o, h1, h2, h3, rfl, hF⟩ := lw_comes l p e ha hc hk s m args below hf hfit hheap happ hpre
  exact ⟨k, _, h1, h2, h3, hL args s _, lw_frame hF⟩
theorem i_vc : Claimed_1_1 ∧ Claimed_1_2 := ⟨lw_limb limb_1_1 (fun args s t => by simp [limb_1_1, Cond.after, Cond.holds, Cond.value]), lw_limb limb_1_2 (fun args s t => Cond.after_iff.mpr (by
  first | (rw [show limb_1_2 = Cond.eq .result (.int 1) from rfl, Cond.eq_ints (x := 1) (y := 1) rfl rfl]; simp; done) | (simp [limb_1_2, Cond.value, Term.eval]; done)))⟩
end
